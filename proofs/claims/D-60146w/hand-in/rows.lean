section
-- ===== PART A: goes FIRST, ahead of the names: the tables' words, and 'selects' of the private methods out of them =====
/-- a private method of a class that the tables say can be made, by its rows of tables_1 -/
def lw_okq (q : MethodName × Nat) : Prop := (q.1.cls ≠ "java/lang/invoke/MethodHandle" ∧ q.1.cls ≠ "java/lang/invoke/VarHandle") ∧ Cond.instantiable q.1.cls q.2 ∈ tables_1 ∧ Cond.privateMethod q.1 ∈ tables_1 ∧ Cond.instanceMethod q.1 ∈ tables_1
set_option maxRecDepth 100000
theorem lw_t1 {w : Cond} (h : w ∈ tables_1_1) : w ∈ tables_1 := List.mem_append_left _ h
theorem lw_t2 {w : Cond} (h : w ∈ tables_1_2) : w ∈ tables_1 := List.mem_append_right _ h
theorem lw_p0 : lw_okq (⟨"PedigreePeeling", "add", "(II)I"⟩, 13) := ⟨⟨by decide +kernel, by decide +kernel⟩, lw_t1 (List.mem_of_getElem? (i := 4) rfl), lw_t1 (List.mem_of_getElem? (i := 58) rfl), lw_t1 (List.mem_of_getElem? (i := 59) rfl)⟩
theorem lw_p1 : lw_okq (⟨"PedigreePeeling", "bad", "(I)Z"⟩, 13) := ⟨⟨by decide +kernel, by decide +kernel⟩, lw_t1 (List.mem_of_getElem? (i := 4) rfl), lw_t1 (List.mem_of_getElem? (i := 66) rfl), lw_t1 (List.mem_of_getElem? (i := 67) rfl)⟩
theorem lw_p2 : lw_okq (⟨"PedigreePeeling", "badGenotype", "(I)Z"⟩, 13) := ⟨⟨by decide +kernel, by decide +kernel⟩, lw_t1 (List.mem_of_getElem? (i := 4) rfl), lw_t1 (List.mem_of_getElem? (i := 86) rfl), lw_t1 (List.mem_of_getElem? (i := 87) rfl)⟩
theorem lw_p3 : lw_okq (⟨"PedigreePeeling", "allowAll", "()V"⟩, 13) := ⟨⟨by decide +kernel, by decide +kernel⟩, lw_t1 (List.mem_of_getElem? (i := 4) rfl), lw_t1 (List.mem_of_getElem? (i := 98) rfl), lw_t1 (List.mem_of_getElem? (i := 99) rfl)⟩
theorem lw_p4 : lw_okq (⟨"PedigreePeeling", "sum", "()J"⟩, 13) := ⟨⟨by decide +kernel, by decide +kernel⟩, lw_t1 (List.mem_of_getElem? (i := 4) rfl), lw_t1 (List.mem_of_getElem? (i := 102) rfl), lw_t1 (List.mem_of_getElem? (i := 103) rfl)⟩
theorem lw_p5 : lw_okq (⟨"PedigreePeeling", "personTable", "(I)V"⟩, 13) := ⟨⟨by decide +kernel, by decide +kernel⟩, lw_t1 (List.mem_of_getElem? (i := 4) rfl), lw_t1 (List.mem_of_getElem? (i := 106) rfl), lw_t1 (List.mem_of_getElem? (i := 107) rfl)⟩
theorem lw_p6 : lw_okq (⟨"PedigreePeeling", "openTable", "(I)I"⟩, 13) := ⟨⟨by decide +kernel, by decide +kernel⟩, lw_t1 (List.mem_of_getElem? (i := 4) rfl), lw_t1 (List.mem_of_getElem? (i := 110) rfl), lw_t1 (List.mem_of_getElem? (i := 111) rfl)⟩
theorem lw_p7 : lw_okq (⟨"PedigreePeeling", "sizeOf", "(I)I"⟩, 13) := ⟨⟨by decide +kernel, by decide +kernel⟩, lw_t1 (List.mem_of_getElem? (i := 4) rfl), lw_t1 (List.mem_of_getElem? (i := 114) rfl), lw_t1 (List.mem_of_getElem? (i := 115) rfl)⟩
theorem lw_p8 : lw_okq (⟨"PedigreePeeling", "power", "(I)I"⟩, 13) := ⟨⟨by decide +kernel, by decide +kernel⟩, lw_t1 (List.mem_of_getElem? (i := 4) rfl), lw_t1 (List.mem_of_getElem? (i := 118) rfl), lw_t1 (List.mem_of_getElem? (i := 119) rfl)⟩
theorem lw_p9 : lw_okq (⟨"PedigreePeeling", "spread", "(II)V"⟩, 13) := ⟨⟨by decide +kernel, by decide +kernel⟩, lw_t1 (List.mem_of_getElem? (i := 4) rfl), lw_t1 (List.mem_of_getElem? (i := 122) rfl), lw_t1 (List.mem_of_getElem? (i := 123) rfl)⟩
theorem lw_p10 : lw_okq (⟨"PedigreePeeling", "factor", "(I)J"⟩, 13) := ⟨⟨by decide +kernel, by decide +kernel⟩, lw_t1 (List.mem_of_getElem? (i := 4) rfl), lw_t1 (List.mem_of_getElem? (i := 126) rfl), lw_t1 (List.mem_of_getElem? (i := 127) rfl)⟩
theorem lw_p11 : lw_okq (⟨"PedigreePeeling", "founderWeight", "(I)I"⟩, 13) := ⟨⟨by decide +kernel, by decide +kernel⟩, lw_t1 (List.mem_of_getElem? (i := 4) rfl), lw_t1 (List.mem_of_getElem? (i := 130) rfl), lw_t1 (List.mem_of_getElem? (i := 131) rfl)⟩
theorem lw_p12 : lw_okq (⟨"PedigreePeeling", "passed", "(III)I"⟩, 13) := ⟨⟨by decide +kernel, by decide +kernel⟩, lw_t1 (List.mem_of_getElem? (i := 4) rfl), lw_t1 (List.mem_of_getElem? (i := 134) rfl), lw_t1 (List.mem_of_getElem? (i := 135) rfl)⟩
theorem lw_p13 : lw_okq (⟨"PedigreePeeling", "easiest", "(I)I"⟩, 13) := ⟨⟨by decide +kernel, by decide +kernel⟩, lw_t1 (List.mem_of_getElem? (i := 4) rfl), lw_t1 (List.mem_of_getElem? (i := 138) rfl), lw_t1 (List.mem_of_getElem? (i := 139) rfl)⟩
theorem lw_p14 : lw_okq (⟨"PedigreePeeling", "around", "(I)I"⟩, 13) := ⟨⟨by decide +kernel, by decide +kernel⟩, lw_t1 (List.mem_of_getElem? (i := 4) rfl), lw_t1 (List.mem_of_getElem? (i := 142) rfl), lw_t1 (List.mem_of_getElem? (i := 143) rfl)⟩
theorem lw_p15 : lw_okq (⟨"PedigreePeeling", "takeOut", "(I)V"⟩, 13) := ⟨⟨by decide +kernel, by decide +kernel⟩, lw_t1 (List.mem_of_getElem? (i := 4) rfl), lw_t1 (List.mem_of_getElem? (i := 146) rfl), lw_t1 (List.mem_of_getElem? (i := 147) rfl)⟩
def lw_privs_1 : List (MethodName × Nat) := [(⟨"PedigreePeeling", "add", "(II)I"⟩, 13), (⟨"PedigreePeeling", "bad", "(I)Z"⟩, 13), (⟨"PedigreePeeling", "badGenotype", "(I)Z"⟩, 13), (⟨"PedigreePeeling", "allowAll", "()V"⟩, 13), (⟨"PedigreePeeling", "sum", "()J"⟩, 13), (⟨"PedigreePeeling", "personTable", "(I)V"⟩, 13), (⟨"PedigreePeeling", "openTable", "(I)I"⟩, 13), (⟨"PedigreePeeling", "sizeOf", "(I)I"⟩, 13), (⟨"PedigreePeeling", "power", "(I)I"⟩, 13), (⟨"PedigreePeeling", "spread", "(II)V"⟩, 13), (⟨"PedigreePeeling", "factor", "(I)J"⟩, 13), (⟨"PedigreePeeling", "founderWeight", "(I)I"⟩, 13), (⟨"PedigreePeeling", "passed", "(III)I"⟩, 13), (⟨"PedigreePeeling", "easiest", "(I)I"⟩, 13), (⟨"PedigreePeeling", "around", "(I)I"⟩, 13), (⟨"PedigreePeeling", "takeOut", "(I)V"⟩, 13)]
theorem lw_r1 : ∀ q ∈ lw_privs_1, lw_okq q := List.forall_mem_cons.mpr ⟨lw_p0, List.forall_mem_cons.mpr ⟨lw_p1, List.forall_mem_cons.mpr ⟨lw_p2, List.forall_mem_cons.mpr ⟨lw_p3, List.forall_mem_cons.mpr ⟨lw_p4, List.forall_mem_cons.mpr ⟨lw_p5, List.forall_mem_cons.mpr ⟨lw_p6, List.forall_mem_cons.mpr ⟨lw_p7, List.forall_mem_cons.mpr ⟨lw_p8, List.forall_mem_cons.mpr ⟨lw_p9, List.forall_mem_cons.mpr ⟨lw_p10, List.forall_mem_cons.mpr ⟨lw_p11, List.forall_mem_cons.mpr ⟨lw_p12, List.forall_mem_cons.mpr ⟨lw_p13, List.forall_mem_cons.mpr ⟨lw_p14, List.forall_mem_cons.mpr ⟨lw_p15, fun _ h => absurd h List.not_mem_nil⟩⟩⟩⟩⟩⟩⟩⟩⟩⟩⟩⟩⟩⟩⟩⟩
theorem lw_p16 : lw_okq (⟨"PedigreePeeling", "product", "(II)J"⟩, 13) := ⟨⟨by decide +kernel, by decide +kernel⟩, lw_t1 (List.mem_of_getElem? (i := 4) rfl), lw_t1 (List.mem_of_getElem? (i := 150) rfl), lw_t1 (List.mem_of_getElem? (i := 151) rfl)⟩
theorem lw_p17 : lw_okq (⟨"PedigreePeeling", "placeIn", "(I)I"⟩, 13) := ⟨⟨by decide +kernel, by decide +kernel⟩, lw_t1 (List.mem_of_getElem? (i := 4) rfl), lw_t1 (List.mem_of_getElem? (i := 154) rfl), lw_t1 (List.mem_of_getElem? (i := 155) rfl)⟩
theorem lw_p18 : lw_okq (⟨"PedigreePeelingModel", "add", "(II)I"⟩, 5) := ⟨⟨by decide +kernel, by decide +kernel⟩, lw_t1 (List.mem_of_getElem? (i := 180) rfl), lw_t1 (List.mem_of_getElem? (i := 206) rfl), lw_t1 (List.mem_of_getElem? (i := 207) rfl)⟩
theorem lw_p19 : lw_okq (⟨"PedigreePeelingModel", "isPerson", "(I)Z"⟩, 5) := ⟨⟨by decide +kernel, by decide +kernel⟩, lw_t1 (List.mem_of_getElem? (i := 180) rfl), lw_t1 (List.mem_of_getElem? (i := 214) rfl), lw_t1 (List.mem_of_getElem? (i := 215) rfl)⟩
theorem lw_p20 : lw_okq (⟨"PedigreePeelingModel", "isGenotype", "(I)Z"⟩, 5) := ⟨⟨by decide +kernel, by decide +kernel⟩, lw_t1 (List.mem_of_getElem? (i := 180) rfl), lw_t1 (List.mem_of_getElem? (i := 234) rfl), lw_t1 (List.mem_of_getElem? (i := 235) rfl)⟩
theorem lw_p21 : lw_okq (⟨"PedigreePeelingModel", "power", "(I)I"⟩, 5) := ⟨⟨by decide +kernel, by decide +kernel⟩, lw_t1 (List.mem_of_getElem? (i := 180) rfl), lw_t2 (List.mem_of_getElem? (i := 6) rfl), lw_t2 (List.mem_of_getElem? (i := 7) rfl)⟩
theorem lw_p22 : lw_okq (⟨"PedigreePeelingModel", "weight", "(I)J"⟩, 5) := ⟨⟨by decide +kernel, by decide +kernel⟩, lw_t1 (List.mem_of_getElem? (i := 180) rfl), lw_t2 (List.mem_of_getElem? (i := 10) rfl), lw_t2 (List.mem_of_getElem? (i := 11) rfl)⟩
theorem lw_p23 : lw_okq (⟨"PedigreePeelingModel", "factor", "(II)I"⟩, 5) := ⟨⟨by decide +kernel, by decide +kernel⟩, lw_t1 (List.mem_of_getElem? (i := 180) rfl), lw_t2 (List.mem_of_getElem? (i := 14) rfl), lw_t2 (List.mem_of_getElem? (i := 15) rfl)⟩
theorem lw_p24 : lw_okq (⟨"PedigreePeelingModel", "genotype", "(II)I"⟩, 5) := ⟨⟨by decide +kernel, by decide +kernel⟩, lw_t1 (List.mem_of_getElem? (i := 180) rfl), lw_t2 (List.mem_of_getElem? (i := 18) rfl), lw_t2 (List.mem_of_getElem? (i := 19) rfl)⟩
theorem lw_p25 : lw_okq (⟨"PedigreePeelingModel", "founded", "(I)I"⟩, 5) := ⟨⟨by decide +kernel, by decide +kernel⟩, lw_t1 (List.mem_of_getElem? (i := 180) rfl), lw_t2 (List.mem_of_getElem? (i := 22) rfl), lw_t2 (List.mem_of_getElem? (i := 23) rfl)⟩
theorem lw_p26 : lw_okq (⟨"PedigreePeelingModel", "inherited", "(III)I"⟩, 5) := ⟨⟨by decide +kernel, by decide +kernel⟩, lw_t1 (List.mem_of_getElem? (i := 180) rfl), lw_t2 (List.mem_of_getElem? (i := 26) rfl), lw_t2 (List.mem_of_getElem? (i := 27) rfl)⟩
theorem lw_p27 : lw_okq (⟨"PedigreePeelingModel", "isPossible", "(I)Z"⟩, 5) := ⟨⟨by decide +kernel, by decide +kernel⟩, lw_t1 (List.mem_of_getElem? (i := 180) rfl), lw_t2 (List.mem_of_getElem? (i := 47) rfl), lw_t2 (List.mem_of_getElem? (i := 48) rfl)⟩
theorem lw_p28 : lw_okq (⟨"PedigreePeelingModel", "forefathers", "(I)I"⟩, 5) := ⟨⟨by decide +kernel, by decide +kernel⟩, lw_t1 (List.mem_of_getElem? (i := 180) rfl), lw_t2 (List.mem_of_getElem? (i := 55) rfl), lw_t2 (List.mem_of_getElem? (i := 56) rfl)⟩
def lw_privs_2 : List (MethodName × Nat) := [(⟨"PedigreePeeling", "product", "(II)J"⟩, 13), (⟨"PedigreePeeling", "placeIn", "(I)I"⟩, 13), (⟨"PedigreePeelingModel", "add", "(II)I"⟩, 5), (⟨"PedigreePeelingModel", "isPerson", "(I)Z"⟩, 5), (⟨"PedigreePeelingModel", "isGenotype", "(I)Z"⟩, 5), (⟨"PedigreePeelingModel", "power", "(I)I"⟩, 5), (⟨"PedigreePeelingModel", "weight", "(I)J"⟩, 5), (⟨"PedigreePeelingModel", "factor", "(II)I"⟩, 5), (⟨"PedigreePeelingModel", "genotype", "(II)I"⟩, 5), (⟨"PedigreePeelingModel", "founded", "(I)I"⟩, 5), (⟨"PedigreePeelingModel", "inherited", "(III)I"⟩, 5), (⟨"PedigreePeelingModel", "isPossible", "(I)Z"⟩, 5), (⟨"PedigreePeelingModel", "forefathers", "(I)I"⟩, 5)]
theorem lw_r2 : ∀ q ∈ lw_privs_2, lw_okq q := List.forall_mem_cons.mpr ⟨lw_p16, List.forall_mem_cons.mpr ⟨lw_p17, List.forall_mem_cons.mpr ⟨lw_p18, List.forall_mem_cons.mpr ⟨lw_p19, List.forall_mem_cons.mpr ⟨lw_p20, List.forall_mem_cons.mpr ⟨lw_p21, List.forall_mem_cons.mpr ⟨lw_p22, List.forall_mem_cons.mpr ⟨lw_p23, List.forall_mem_cons.mpr ⟨lw_p24, List.forall_mem_cons.mpr ⟨lw_p25, List.forall_mem_cons.mpr ⟨lw_p26, List.forall_mem_cons.mpr ⟨lw_p27, List.forall_mem_cons.mpr ⟨lw_p28, fun _ h => absurd h List.not_mem_nil⟩⟩⟩⟩⟩⟩⟩⟩⟩⟩⟩⟩⟩
def lw_privs : List (MethodName × Nat) := lw_privs_1 ++ (lw_privs_2)
def lw_tbl : List Cond := k2_sels lw_privs ++ tables_1
theorem lw_privs_ok : ∀ q ∈ lw_privs, lw_okq q := by
  show ∀ q ∈ lw_privs_1 ++ (lw_privs_2), lw_okq q
  exact List.forall_mem_append.mpr ⟨lw_r1, lw_r2⟩
-- ===== ONE list of words for every method: the tables' words that hold all through a run =====
def lw_all : List Cond := lw_tbl.filter goodWord
/-- a word of the tables by its place: claim/WORDS.tsv -/
theorem lw_w {w : Cond} (i : Nat) (h : lw_tbl[i]? = some w) (g : goodWord w = true) : w ∈ lw_all := List.mem_filter.mpr ⟨List.mem_of_getElem? h, g⟩
theorem lw_all_tbl {w : Cond} (h : w ∈ lw_all) : w ∈ lw_tbl := (List.mem_filter.mp h).1
theorem lw_self : GoodIn lw_all lw_all := fun w h => ⟨h, good_of_word (List.mem_filter.mp h).2⟩
/-- a class's field words, by their places -/
theorem lw_in (ws : List Cond) (ps : List Nat) (hp : ws = ps.filterMap (fun i => lw_tbl[i]?)) (hg : ws.all goodWord = true) : ∀ w ∈ ws, w ∈ lw_all := by
  intro w h
  have h1 := List.all_eq_true.mp hg w h
  rw [hp] at h
  obtain ⟨i, -, hi⟩ := List.mem_filterMap.mp h
  exact lw_w i hi h1
/-- the words of a contract for the method y with code b, L locals, answer r -/
abbrev ws_ (y : MethodName) (b : ByteArray) (L : Nat) (r : Option FieldType) : List Cond := Cond.code y b L r :: lw_all
theorem lw_meth {y : MethodName} {b : ByteArray} {L : Nat} {r : Option FieldType} (h : Cond.code y b L r ∈ lw_all) : GoodIn lw_all (ws_ y b L r) := by
  intro w hw
  rcases List.mem_cons.mp hw with e | e
  · rw [e]
    exact lw_self _ h
  · exact lw_self _ e
theorem lw_app {a c : List Cond} (ha : ∀ w ∈ a, w ∈ lw_all) (hc : GoodIn lw_all c) : GoodIn lw_all (a ++ c) := by
  intro w hw
  rcases List.mem_append.mp hw with e | e
  · exact lw_self w (ha w e)
  · exact hc w e
/-- what a call through an object asks: cwV n hts (lw_V ..) -/
theorem lw_V {own : String} {idx : Nat} {C : String} {y : MethodName} {b : ByteArray} {L : Nat} {r : Option FieldType} (h1 : Cond.methodLink own idx y ∈ lw_all) (h2 : Cond.instanceMethod y ∈ lw_all) (h3 : Cond.selects C y y ∈ lw_all) (h4 : Cond.initialized C ∈ lw_all) (h5 : Cond.code y b L r ∈ lw_all) : GoodIn lw_all (wsV own idx C y (ws_ y b L r)) := by
  refine lw_app ?_ (lw_meth h5)
  intro w hw
  simp only [List.mem_cons, List.not_mem_nil, or_false] at hw
  rcases hw with e | e | e | e
  · rw [e]; exact h1
  · rw [e]; exact h2
  · rw [e]; exact h3
  · rw [e]; exact h4
/-- what a static call asks: va_cwS n hts (lw_S ..) -/
theorem lw_S {own : String} {idx : Nat} {y : MethodName} {b : ByteArray} {L : Nat} {r : Option FieldType} (h1 : Cond.methodLink own idx y ∈ lw_all) (h2 : Cond.static y ∈ lw_all) (h3 : Cond.initialized y.cls ∈ lw_all) (h4 : Cond.code y b L r ∈ lw_all) : GoodIn lw_all (va_wsS own idx y (ws_ y b L r)) := by
  refine lw_app ?_ (lw_meth h4)
  intro w hw
  simp only [List.mem_cons, List.not_mem_nil, or_false] at hw
  rcases hw with e | e | e
  · rw [e]; exact h1
  · rw [e]; exact h2
  · rw [e]; exact h3
/-- the words of a contract for a method WITH HANDLERS (hh: its table) -/
abbrev wsW_ (y : MethodName) (b : ByteArray) (L : Nat) (r : Option FieldType) (hh : List (Nat × Nat × Nat × Nat)) : List Cond := Cond.codeWith y b L r hh :: lw_all
theorem lw_methW {y : MethodName} {b : ByteArray} {L : Nat} {r : Option FieldType} {hh : List (Nat × Nat × Nat × Nat)} (h : Cond.codeWith y b L r hh ∈ lw_all) : GoodIn lw_all (wsW_ y b L r hh) := by
  intro w hw
  rcases List.mem_cons.mp hw with e | e
  · rw [e]
    exact lw_self _ h
  · exact lw_self _ e
/-- any list of words by their places (lw_in), good -/
theorem lw_good {ws : List Cond} (h : ∀ w ∈ ws, w ∈ lw_all) : GoodIn lw_all ws := fun w hw => lw_self w (h w hw)
/-- what a call of a method with handlers asks: vx_cwVW n hts (lw_VW ..), vx_cwSW n hts (lw_SW ..) -/
theorem lw_VW {own : String} {idx : Nat} {C : String} {y : MethodName} {b : ByteArray} {L : Nat} {r : Option FieldType} {hh : List (Nat × Nat × Nat × Nat)} (h1 : Cond.methodLink own idx y ∈ lw_all) (h2 : Cond.instanceMethod y ∈ lw_all) (h3 : Cond.selects C y y ∈ lw_all) (h4 : Cond.initialized C ∈ lw_all) (h5 : Cond.codeWith y b L r hh ∈ lw_all) : GoodIn lw_all (wsV own idx C y (wsW_ y b L r hh)) := by
  refine lw_app ?_ (lw_methW h5)
  intro w hw
  simp only [List.mem_cons, List.not_mem_nil, or_false] at hw
  rcases hw with e | e | e | e
  · rw [e]; exact h1
  · rw [e]; exact h2
  · rw [e]; exact h3
  · rw [e]; exact h4
theorem lw_SW {own : String} {idx : Nat} {y : MethodName} {b : ByteArray} {L : Nat} {r : Option FieldType} {hh : List (Nat × Nat × Nat × Nat)} (h1 : Cond.methodLink own idx y ∈ lw_all) (h2 : Cond.static y ∈ lw_all) (h3 : Cond.initialized y.cls ∈ lw_all) (h4 : Cond.codeWith y b L r hh ∈ lw_all) : GoodIn lw_all (va_wsS own idx y (wsW_ y b L r hh)) := by
  refine lw_app ?_ (lw_methW h4)
  intro w hw
  simp only [List.mem_cons, List.not_mem_nil, or_false] at hw
  rcases hw with e | e | e
  · rw [e]; exact h1
  · rw [e]; exact h2
  · rw [e]; exact h3
/-- a word by its place in its run of the tables -/
theorem lw_at {r : List Cond} (hr : ∀ w ∈ r, w ∈ lw_tbl) {w : Cond} (i : Nat) (h : r[i]? = some w) : w ∈ lw_tbl := hr w (List.mem_of_getElem? h)
theorem lw_g {w : Cond} (h : w ∈ lw_tbl) (g : goodWord w = true) : w ∈ lw_all := List.mem_filter.mpr ⟨h, g⟩
theorem lw_ms : ∀ w ∈ k2_sels lw_privs, w ∈ lw_tbl := fun w h => show w ∈ k2_sels lw_privs ++ tables_1 from List.mem_append_left _ h
theorem lw_m1 : ∀ w ∈ tables_1_1, w ∈ lw_tbl := fun w h => show w ∈ k2_sels lw_privs ++ tables_1 from List.mem_append_right (k2_sels lw_privs) (show w ∈ tables_1 from List.mem_append_left _ h)
theorem lw_m2 : ∀ w ∈ tables_1_2, w ∈ lw_tbl := fun w h => show w ∈ k2_sels lw_privs ++ tables_1 from List.mem_append_right (k2_sels lw_privs) (show w ∈ tables_1 from List.mem_append_right _ h)
theorem qs0 : (Cond.selects "PedigreePeeling" ⟨"PedigreePeeling", "add", "(II)I"⟩ ⟨"PedigreePeeling", "add", "(II)I"⟩) ∈ lw_all := lw_g (lw_at lw_ms 0 rfl) rfl
theorem qs1 : (Cond.selects "PedigreePeeling" ⟨"PedigreePeeling", "bad", "(I)Z"⟩ ⟨"PedigreePeeling", "bad", "(I)Z"⟩) ∈ lw_all := lw_g (lw_at lw_ms 1 rfl) rfl
theorem qs2 : (Cond.selects "PedigreePeeling" ⟨"PedigreePeeling", "badGenotype", "(I)Z"⟩ ⟨"PedigreePeeling", "badGenotype", "(I)Z"⟩) ∈ lw_all := lw_g (lw_at lw_ms 2 rfl) rfl
theorem qs3 : (Cond.selects "PedigreePeeling" ⟨"PedigreePeeling", "allowAll", "()V"⟩ ⟨"PedigreePeeling", "allowAll", "()V"⟩) ∈ lw_all := lw_g (lw_at lw_ms 3 rfl) rfl
theorem qs4 : (Cond.selects "PedigreePeeling" ⟨"PedigreePeeling", "sum", "()J"⟩ ⟨"PedigreePeeling", "sum", "()J"⟩) ∈ lw_all := lw_g (lw_at lw_ms 4 rfl) rfl
theorem qs5 : (Cond.selects "PedigreePeeling" ⟨"PedigreePeeling", "personTable", "(I)V"⟩ ⟨"PedigreePeeling", "personTable", "(I)V"⟩) ∈ lw_all := lw_g (lw_at lw_ms 5 rfl) rfl
theorem qs6 : (Cond.selects "PedigreePeeling" ⟨"PedigreePeeling", "openTable", "(I)I"⟩ ⟨"PedigreePeeling", "openTable", "(I)I"⟩) ∈ lw_all := lw_g (lw_at lw_ms 6 rfl) rfl
theorem qs7 : (Cond.selects "PedigreePeeling" ⟨"PedigreePeeling", "sizeOf", "(I)I"⟩ ⟨"PedigreePeeling", "sizeOf", "(I)I"⟩) ∈ lw_all := lw_g (lw_at lw_ms 7 rfl) rfl
theorem qs8 : (Cond.selects "PedigreePeeling" ⟨"PedigreePeeling", "power", "(I)I"⟩ ⟨"PedigreePeeling", "power", "(I)I"⟩) ∈ lw_all := lw_g (lw_at lw_ms 8 rfl) rfl
theorem qs9 : (Cond.selects "PedigreePeeling" ⟨"PedigreePeeling", "spread", "(II)V"⟩ ⟨"PedigreePeeling", "spread", "(II)V"⟩) ∈ lw_all := lw_g (lw_at lw_ms 9 rfl) rfl
theorem qs10 : (Cond.selects "PedigreePeeling" ⟨"PedigreePeeling", "factor", "(I)J"⟩ ⟨"PedigreePeeling", "factor", "(I)J"⟩) ∈ lw_all := lw_g (lw_at lw_ms 10 rfl) rfl
theorem qs11 : (Cond.selects "PedigreePeeling" ⟨"PedigreePeeling", "founderWeight", "(I)I"⟩ ⟨"PedigreePeeling", "founderWeight", "(I)I"⟩) ∈ lw_all := lw_g (lw_at lw_ms 11 rfl) rfl
theorem qs12 : (Cond.selects "PedigreePeeling" ⟨"PedigreePeeling", "passed", "(III)I"⟩ ⟨"PedigreePeeling", "passed", "(III)I"⟩) ∈ lw_all := lw_g (lw_at lw_ms 12 rfl) rfl
theorem qs13 : (Cond.selects "PedigreePeeling" ⟨"PedigreePeeling", "easiest", "(I)I"⟩ ⟨"PedigreePeeling", "easiest", "(I)I"⟩) ∈ lw_all := lw_g (lw_at lw_ms 13 rfl) rfl
theorem qs14 : (Cond.selects "PedigreePeeling" ⟨"PedigreePeeling", "around", "(I)I"⟩ ⟨"PedigreePeeling", "around", "(I)I"⟩) ∈ lw_all := lw_g (lw_at lw_ms 14 rfl) rfl
theorem qs15 : (Cond.selects "PedigreePeeling" ⟨"PedigreePeeling", "takeOut", "(I)V"⟩ ⟨"PedigreePeeling", "takeOut", "(I)V"⟩) ∈ lw_all := lw_g (lw_at lw_ms 15 rfl) rfl
theorem qs16 : (Cond.selects "PedigreePeeling" ⟨"PedigreePeeling", "product", "(II)J"⟩ ⟨"PedigreePeeling", "product", "(II)J"⟩) ∈ lw_all := lw_g (lw_at lw_ms 16 rfl) rfl
theorem qs17 : (Cond.selects "PedigreePeeling" ⟨"PedigreePeeling", "placeIn", "(I)I"⟩ ⟨"PedigreePeeling", "placeIn", "(I)I"⟩) ∈ lw_all := lw_g (lw_at lw_ms 17 rfl) rfl
theorem qs18 : (Cond.selects "PedigreePeelingModel" ⟨"PedigreePeelingModel", "add", "(II)I"⟩ ⟨"PedigreePeelingModel", "add", "(II)I"⟩) ∈ lw_all := lw_g (lw_at lw_ms 18 rfl) rfl
theorem qs19 : (Cond.selects "PedigreePeelingModel" ⟨"PedigreePeelingModel", "isPerson", "(I)Z"⟩ ⟨"PedigreePeelingModel", "isPerson", "(I)Z"⟩) ∈ lw_all := lw_g (lw_at lw_ms 19 rfl) rfl
theorem qs20 : (Cond.selects "PedigreePeelingModel" ⟨"PedigreePeelingModel", "isGenotype", "(I)Z"⟩ ⟨"PedigreePeelingModel", "isGenotype", "(I)Z"⟩) ∈ lw_all := lw_g (lw_at lw_ms 20 rfl) rfl
theorem qs21 : (Cond.selects "PedigreePeelingModel" ⟨"PedigreePeelingModel", "power", "(I)I"⟩ ⟨"PedigreePeelingModel", "power", "(I)I"⟩) ∈ lw_all := lw_g (lw_at lw_ms 21 rfl) rfl
theorem qs22 : (Cond.selects "PedigreePeelingModel" ⟨"PedigreePeelingModel", "weight", "(I)J"⟩ ⟨"PedigreePeelingModel", "weight", "(I)J"⟩) ∈ lw_all := lw_g (lw_at lw_ms 22 rfl) rfl
theorem qs23 : (Cond.selects "PedigreePeelingModel" ⟨"PedigreePeelingModel", "factor", "(II)I"⟩ ⟨"PedigreePeelingModel", "factor", "(II)I"⟩) ∈ lw_all := lw_g (lw_at lw_ms 23 rfl) rfl
theorem qs24 : (Cond.selects "PedigreePeelingModel" ⟨"PedigreePeelingModel", "genotype", "(II)I"⟩ ⟨"PedigreePeelingModel", "genotype", "(II)I"⟩) ∈ lw_all := lw_g (lw_at lw_ms 24 rfl) rfl
theorem qs25 : (Cond.selects "PedigreePeelingModel" ⟨"PedigreePeelingModel", "founded", "(I)I"⟩ ⟨"PedigreePeelingModel", "founded", "(I)I"⟩) ∈ lw_all := lw_g (lw_at lw_ms 25 rfl) rfl
theorem qs26 : (Cond.selects "PedigreePeelingModel" ⟨"PedigreePeelingModel", "inherited", "(III)I"⟩ ⟨"PedigreePeelingModel", "inherited", "(III)I"⟩) ∈ lw_all := lw_g (lw_at lw_ms 26 rfl) rfl
theorem qs27 : (Cond.selects "PedigreePeelingModel" ⟨"PedigreePeelingModel", "isPossible", "(I)Z"⟩ ⟨"PedigreePeelingModel", "isPossible", "(I)Z"⟩) ∈ lw_all := lw_g (lw_at lw_ms 27 rfl) rfl
theorem qs28 : (Cond.selects "PedigreePeelingModel" ⟨"PedigreePeelingModel", "forefathers", "(I)I"⟩ ⟨"PedigreePeelingModel", "forefathers", "(I)I"⟩) ∈ lw_all := lw_g (lw_at lw_ms 28 rfl) rfl
end
section
set_option maxRecDepth 100000
/-! java/lang/Object -/
def RJ0 : String := "java/lang/Object"
abbrev cJ0_init : ByteArray := object_method_1_code
def yJ0_init : MethodName := ⟨RJ0, "<init>", "()V"⟩
theorem dJ0_init_0 : decode cJ0_init 0 = .ok (.return_, 1) := by decide +kernel
theorem q38 : (Jvm.Cond.instanceMethod ({ cls := "java/lang/Object", name := "<init>", desc := "()V" } : Jvm.MethodName)) ∈ lw_all := lw_g (lw_at lw_m1 9 rfl) rfl
theorem q39 : (Jvm.Cond.code ({ cls := "java/lang/Object", name := "<init>", desc := "()V" } : Jvm.MethodName) object_method_1_code (1 : Nat) (Option.none : Option Jvm.ClassFile.FieldType)) ∈ lw_all := lw_g (lw_at lw_m1 10 rfl) rfl
theorem q80 : (Jvm.Cond.arrayClass Jvm.ClassFile.FieldType.int) ∈ lw_all := lw_g (lw_at lw_m1 51 rfl) rfl
theorem q81 : (Jvm.Cond.arrayClass Jvm.ClassFile.FieldType.long) ∈ lw_all := lw_g (lw_at lw_m1 52 rfl) rfl
theorem q29 : (Jvm.Cond.initialized "PedigreePeelingLaw") ∈ lw_all := lw_g (lw_at lw_m1 0 rfl) rfl
theorem q32 : (Jvm.Cond.classLink "PedigreePeelingLaw" (7 : Nat) "PedigreePeeling") ∈ lw_all := lw_g (lw_at lw_m1 3 rfl) rfl
theorem q34 : (Jvm.Cond.methodLink "PedigreePeelingLaw" (9 : Nat) ({ cls := "PedigreePeeling", name := "<init>", desc := "()V" } : Jvm.MethodName)) ∈ lw_all := lw_g (lw_at lw_m1 5 rfl) rfl
theorem q82 : (Jvm.Cond.methodLink "PedigreePeelingLaw" (13 : Nat) ({ cls := "PedigreePeeling", name := "founder", desc := "()I" } : Jvm.MethodName)) ∈ lw_all := lw_g (lw_at lw_m1 53 rfl) rfl
theorem q90 : (Jvm.Cond.methodLink "PedigreePeelingLaw" (18 : Nat) ({ cls := "PedigreePeeling", name := "child", desc := "(II)I" } : Jvm.MethodName)) ∈ lw_all := lw_g (lw_at lw_m1 61 rfl) rfl
theorem q98 : (Jvm.Cond.methodLink "PedigreePeelingLaw" (23 : Nat) ({ cls := "PedigreePeeling", name := "remove", desc := "()I" } : Jvm.MethodName)) ∈ lw_all := lw_g (lw_at lw_m1 69 rfl) rfl
theorem q102 : (Jvm.Cond.methodLink "PedigreePeelingLaw" (27 : Nat) ({ cls := "PedigreePeeling", name := "persons", desc := "()I" } : Jvm.MethodName)) ∈ lw_all := lw_g (lw_at lw_m1 73 rfl) rfl
theorem q106 : (Jvm.Cond.methodLink "PedigreePeelingLaw" (31 : Nat) ({ cls := "PedigreePeeling", name := "frequency", desc := "(I)I" } : Jvm.MethodName)) ∈ lw_all := lw_g (lw_at lw_m1 77 rfl) rfl
theorem q110 : (Jvm.Cond.methodLink "PedigreePeelingLaw" (36 : Nat) ({ cls := "PedigreePeeling", name := "see", desc := "(III)I" } : Jvm.MethodName)) ∈ lw_all := lw_g (lw_at lw_m1 81 rfl) rfl
theorem q118 : (Jvm.Cond.methodLink "PedigreePeelingLaw" (41 : Nat) ({ cls := "PedigreePeeling", name := "seen", desc := "(II)I" } : Jvm.MethodName)) ∈ lw_all := lw_g (lw_at lw_m1 89 rfl) rfl
theorem q122 : (Jvm.Cond.methodLink "PedigreePeelingLaw" (45 : Nat) ({ cls := "PedigreePeeling", name := "likelihood", desc := "()J" } : Jvm.MethodName)) ∈ lw_all := lw_g (lw_at lw_m1 93 rfl) rfl
theorem q186 : (Jvm.Cond.methodLink "PedigreePeelingLaw" (50 : Nat) ({ cls := "PedigreePeeling", name := "share", desc := "(II)J" } : Jvm.MethodName)) ∈ lw_all := lw_g (lw_at lw_m1 157 rfl) rfl
theorem q190 : (Jvm.Cond.methodLink "PedigreePeelingLaw" (55 : Nat) ({ cls := "PedigreePeeling", name := "shareOfTwo", desc := "(IIII)J" } : Jvm.MethodName)) ∈ lw_all := lw_g (lw_at lw_m1 161 rfl) rfl
theorem q194 : (Jvm.Cond.methodLink "PedigreePeelingLaw" (60 : Nat) ({ cls := "PedigreePeeling", name := "copies", desc := "(I)J" } : Jvm.MethodName)) ∈ lw_all := lw_g (lw_at lw_m1 165 rfl) rfl
theorem q200 : (Jvm.Cond.methodLink "PedigreePeelingLaw" (65 : Nat) ({ cls := "PedigreePeeling", name := "possible", desc := "(I)I" } : Jvm.MethodName)) ∈ lw_all := lw_g (lw_at lw_m1 171 rfl) rfl
theorem q204 : (Jvm.Cond.methodLink "PedigreePeelingLaw" (69 : Nat) ({ cls := "PedigreePeeling", name := "before", desc := "(II)Z" } : Jvm.MethodName)) ∈ lw_all := lw_g (lw_at lw_m1 175 rfl) rfl
theorem q208 : (Jvm.Cond.classLink "PedigreePeelingLaw" (10 : Nat) "PedigreePeelingModel") ∈ lw_all := lw_g (lw_at lw_m1 179 rfl) rfl
theorem q210 : (Jvm.Cond.methodLink "PedigreePeelingLaw" (12 : Nat) ({ cls := "PedigreePeelingModel", name := "<init>", desc := "()V" } : Jvm.MethodName)) ∈ lw_all := lw_g (lw_at lw_m1 181 rfl) rfl
theorem q230 : (Jvm.Cond.methodLink "PedigreePeelingLaw" (17 : Nat) ({ cls := "PedigreePeelingModel", name := "founder", desc := "()I" } : Jvm.MethodName)) ∈ lw_all := lw_g (lw_at lw_m1 201 rfl) rfl
theorem q238 : (Jvm.Cond.methodLink "PedigreePeelingLaw" (22 : Nat) ({ cls := "PedigreePeelingModel", name := "child", desc := "(II)I" } : Jvm.MethodName)) ∈ lw_all := lw_g (lw_at lw_m1 209 rfl) rfl
theorem q246 : (Jvm.Cond.methodLink "PedigreePeelingLaw" (26 : Nat) ({ cls := "PedigreePeelingModel", name := "remove", desc := "()I" } : Jvm.MethodName)) ∈ lw_all := lw_g (lw_at lw_m1 217 rfl) rfl
theorem q250 : (Jvm.Cond.methodLink "PedigreePeelingLaw" (30 : Nat) ({ cls := "PedigreePeelingModel", name := "persons", desc := "()I" } : Jvm.MethodName)) ∈ lw_all := lw_g (lw_at lw_m1 221 rfl) rfl
theorem q254 : (Jvm.Cond.methodLink "PedigreePeelingLaw" (35 : Nat) ({ cls := "PedigreePeelingModel", name := "frequency", desc := "(I)I" } : Jvm.MethodName)) ∈ lw_all := lw_g (lw_at lw_m1 225 rfl) rfl
theorem q258 : (Jvm.Cond.methodLink "PedigreePeelingLaw" (40 : Nat) ({ cls := "PedigreePeelingModel", name := "see", desc := "(III)I" } : Jvm.MethodName)) ∈ lw_all := lw_g (lw_at lw_m1 229 rfl) rfl
theorem q266 : (Jvm.Cond.methodLink "PedigreePeelingLaw" (44 : Nat) ({ cls := "PedigreePeelingModel", name := "seen", desc := "(II)I" } : Jvm.MethodName)) ∈ lw_all := lw_g (lw_at lw_m1 237 rfl) rfl
theorem q270 : (Jvm.Cond.methodLink "PedigreePeelingLaw" (49 : Nat) ({ cls := "PedigreePeelingModel", name := "likelihood", desc := "()J" } : Jvm.MethodName)) ∈ lw_all := lw_g (lw_at lw_m2 1 rfl) rfl
theorem q298 : (Jvm.Cond.methodLink "PedigreePeelingLaw" (54 : Nat) ({ cls := "PedigreePeelingModel", name := "share", desc := "(II)J" } : Jvm.MethodName)) ∈ lw_all := lw_g (lw_at lw_m2 29 rfl) rfl
theorem q306 : (Jvm.Cond.methodLink "PedigreePeelingLaw" (59 : Nat) ({ cls := "PedigreePeelingModel", name := "shareOfTwo", desc := "(IIII)J" } : Jvm.MethodName)) ∈ lw_all := lw_g (lw_at lw_m2 37 rfl) rfl
theorem q307 : (Jvm.Cond.methodLink "PedigreePeelingLaw" (64 : Nat) ({ cls := "PedigreePeelingModel", name := "copies", desc := "(I)J" } : Jvm.MethodName)) ∈ lw_all := lw_g (lw_at lw_m2 38 rfl) rfl
theorem q311 : (Jvm.Cond.methodLink "PedigreePeelingLaw" (68 : Nat) ({ cls := "PedigreePeelingModel", name := "possible", desc := "(I)I" } : Jvm.MethodName)) ∈ lw_all := lw_g (lw_at lw_m2 42 rfl) rfl
theorem q319 : (Jvm.Cond.methodLink "PedigreePeelingLaw" (73 : Nat) ({ cls := "PedigreePeelingModel", name := "before", desc := "(II)Z" } : Jvm.MethodName)) ∈ lw_all := lw_g (lw_at lw_m2 50 rfl) rfl
/-! PedigreePeeling -/
def RX0 : String := "PedigreePeeling"
def TX0 : u_T := fun k => match k with
  | 0 => ("PedigreePeeling", "count", "I", false)
  | 1 => ("PedigreePeeling", "q", "I", false)
  | 2 => ("PedigreePeeling", "mother", "[I", true)
  | 3 => ("PedigreePeeling", "father", "[I", true)
  | 4 => ("PedigreePeeling", "seen", "[I", true)
  | 5 => ("PedigreePeeling", "allowed", "[I", true)
  | 6 => ("PedigreePeeling", "onlyWhether", "Z", false)
  | 7 => ("PedigreePeeling", "tables", "I", false)
  | 8 => ("PedigreePeeling", "used", "I", false)
  | 9 => ("PedigreePeeling", "scope", "[I", true)
  | 10 => ("PedigreePeeling", "begin", "[I", true)
  | 11 => ("PedigreePeeling", "cell", "[J", true)
  | _ => ("PedigreePeeling", "genotype", "[I", true)
def tyX0 : Nat → FieldType := fun k => match k with
  | 0 => .int
  | 1 => .int
  | 2 => .array .int
  | 3 => .array .int
  | 4 => .array .int
  | 5 => .array .int
  | 6 => .boolean
  | 7 => .int
  | 8 => .int
  | 9 => .array .int
  | 10 => .array .int
  | 11 => .array .long
  | _ => .array .int
abbrev wsX00 : List Cond := u_ws RX0 TX0 13
set_option maxRecDepth 100000 in
theorem nmX0 : ∀ a, a < 13 → ∀ b, b < 13 → a ≠ b → (TX0 a).2.1 ≠ (TX0 b).2.1 := by decide +kernel
set_option maxRecDepth 100000 in
theorem tyX0_ok : ∀ k, k < 13 → parseFieldDescriptor (TX0 k).2.2.1 = some (tyX0 k) := by decide +kernel
abbrev cX0_init : ByteArray := prog_1_method_1_code
def yX0_init : MethodName := ⟨RX0, "<init>", "()V"⟩
abbrev cX0_founder : ByteArray := prog_1_method_5_code
def yX0_founder : MethodName := ⟨RX0, "founder", "()I"⟩
abbrev cX0_add : ByteArray := prog_1_method_2_code
def yX0_add : MethodName := ⟨RX0, "add", "(II)I"⟩
abbrev cX0_child : ByteArray := prog_1_method_6_code
def yX0_child : MethodName := ⟨RX0, "child", "(II)I"⟩
abbrev cX0_bad : ByteArray := prog_1_method_3_code
def yX0_bad : MethodName := ⟨RX0, "bad", "(I)Z"⟩
abbrev cX0_remove : ByteArray := prog_1_method_7_code
def yX0_remove : MethodName := ⟨RX0, "remove", "()I"⟩
abbrev cX0_persons : ByteArray := prog_1_method_8_code
def yX0_persons : MethodName := ⟨RX0, "persons", "()I"⟩
abbrev cX0_frequency : ByteArray := prog_1_method_9_code
def yX0_frequency : MethodName := ⟨RX0, "frequency", "(I)I"⟩
abbrev cX0_see : ByteArray := prog_1_method_10_code
def yX0_see : MethodName := ⟨RX0, "see", "(III)I"⟩
abbrev cX0_badGenotype : ByteArray := prog_1_method_4_code
def yX0_badGenotype : MethodName := ⟨RX0, "badGenotype", "(I)Z"⟩
abbrev cX0_seen : ByteArray := prog_1_method_11_code
def yX0_seen : MethodName := ⟨RX0, "seen", "(II)I"⟩
abbrev cX0_likelihood : ByteArray := prog_1_method_27_code
def yX0_likelihood : MethodName := ⟨RX0, "likelihood", "()J"⟩
abbrev cX0_allowAll : ByteArray := prog_1_method_26_code
def yX0_allowAll : MethodName := ⟨RX0, "allowAll", "()V"⟩
abbrev cX0_sum : ByteArray := prog_1_method_25_code
def yX0_sum : MethodName := ⟨RX0, "sum", "()J"⟩
abbrev cX0_personTable : ByteArray := prog_1_method_20_code
def yX0_personTable : MethodName := ⟨RX0, "personTable", "(I)V"⟩
abbrev cX0_openTable : ByteArray := prog_1_method_19_code
def yX0_openTable : MethodName := ⟨RX0, "openTable", "(I)I"⟩
abbrev cX0_sizeOf : ByteArray := prog_1_method_12_code
def yX0_sizeOf : MethodName := ⟨RX0, "sizeOf", "(I)I"⟩
abbrev cX0_power : ByteArray := prog_1_method_13_code
def yX0_power : MethodName := ⟨RX0, "power", "(I)I"⟩
abbrev cX0_spread : ByteArray := prog_1_method_14_code
def yX0_spread : MethodName := ⟨RX0, "spread", "(II)V"⟩
abbrev cX0_factor : ByteArray := prog_1_method_18_code
def yX0_factor : MethodName := ⟨RX0, "factor", "(I)J"⟩
abbrev cX0_founderWeight : ByteArray := prog_1_method_16_code
def yX0_founderWeight : MethodName := ⟨RX0, "founderWeight", "(I)I"⟩
abbrev cX0_passed : ByteArray := prog_1_method_17_code
def yX0_passed : MethodName := ⟨RX0, "passed", "(III)I"⟩
abbrev cX0_easiest : ByteArray := prog_1_method_22_code
def yX0_easiest : MethodName := ⟨RX0, "easiest", "(I)I"⟩
abbrev cX0_around : ByteArray := prog_1_method_21_code
def yX0_around : MethodName := ⟨RX0, "around", "(I)I"⟩
abbrev cX0_takeOut : ByteArray := prog_1_method_24_code
def yX0_takeOut : MethodName := ⟨RX0, "takeOut", "(I)V"⟩
abbrev cX0_product : ByteArray := prog_1_method_23_code
def yX0_product : MethodName := ⟨RX0, "product", "(II)J"⟩
abbrev cX0_placeIn : ByteArray := prog_1_method_15_code
def yX0_placeIn : MethodName := ⟨RX0, "placeIn", "(I)I"⟩
abbrev cX0_share : ByteArray := prog_1_method_28_code
def yX0_share : MethodName := ⟨RX0, "share", "(II)J"⟩
abbrev cX0_shareOfTwo : ByteArray := prog_1_method_29_code
def yX0_shareOfTwo : MethodName := ⟨RX0, "shareOfTwo", "(IIII)J"⟩
abbrev cX0_copies : ByteArray := prog_1_method_30_code
def yX0_copies : MethodName := ⟨RX0, "copies", "(I)J"⟩
abbrev cX0_possible : ByteArray := prog_1_method_31_code
def yX0_possible : MethodName := ⟨RX0, "possible", "(I)I"⟩
abbrev cX0_before : ByteArray := prog_1_method_32_code
def yX0_before : MethodName := ⟨RX0, "before", "(II)Z"⟩
theorem q30 : (Jvm.Cond.initialized "PedigreePeeling") ∈ lw_all := lw_g (lw_at lw_m1 1 rfl) rfl
theorem q33 : (Jvm.Cond.instantiable "PedigreePeeling" (13 : Nat)) ∈ lw_all := lw_g (lw_at lw_m1 4 rfl) rfl
theorem q35 : (Jvm.Cond.instanceMethod ({ cls := "PedigreePeeling", name := "<init>", desc := "()V" } : Jvm.MethodName)) ∈ lw_all := lw_g (lw_at lw_m1 6 rfl) rfl
theorem q36 : (Jvm.Cond.code ({ cls := "PedigreePeeling", name := "<init>", desc := "()V" } : Jvm.MethodName) prog_1_method_1_code (1 : Nat) (Option.none : Option Jvm.ClassFile.FieldType)) ∈ lw_all := lw_g (lw_at lw_m1 7 rfl) rfl
theorem q37 : (Jvm.Cond.methodLink "PedigreePeeling" (1 : Nat) ({ cls := "java/lang/Object", name := "<init>", desc := "()V" } : Jvm.MethodName)) ∈ lw_all := lw_g (lw_at lw_m1 8 rfl) rfl
theorem q40 : (Jvm.Cond.fieldLink "PedigreePeeling" (39 : Nat) "PedigreePeeling" "count" "I") ∈ lw_all := lw_g (lw_at lw_m1 11 rfl) rfl
theorem q41 : (Jvm.Cond.fieldLink "PedigreePeeling" (35 : Nat) "PedigreePeeling" "q" "I") ∈ lw_all := lw_g (lw_at lw_m1 12 rfl) rfl
theorem q42 : (Jvm.Cond.fieldLink "PedigreePeeling" (7 : Nat) "PedigreePeeling" "mother" "[I") ∈ lw_all := lw_g (lw_at lw_m1 13 rfl) rfl
theorem q43 : (Jvm.Cond.fieldLink "PedigreePeeling" (13 : Nat) "PedigreePeeling" "father" "[I") ∈ lw_all := lw_g (lw_at lw_m1 14 rfl) rfl
theorem q44 : (Jvm.Cond.fieldLink "PedigreePeeling" (16 : Nat) "PedigreePeeling" "seen" "[I") ∈ lw_all := lw_g (lw_at lw_m1 15 rfl) rfl
theorem q45 : (Jvm.Cond.fieldLink "PedigreePeeling" (19 : Nat) "PedigreePeeling" "allowed" "[I") ∈ lw_all := lw_g (lw_at lw_m1 16 rfl) rfl
theorem q46 : (Jvm.Cond.fieldLink "PedigreePeeling" (61 : Nat) "PedigreePeeling" "onlyWhether" "Z") ∈ lw_all := lw_g (lw_at lw_m1 17 rfl) rfl
theorem q47 : (Jvm.Cond.fieldLink "PedigreePeeling" (65 : Nat) "PedigreePeeling" "tables" "I") ∈ lw_all := lw_g (lw_at lw_m1 18 rfl) rfl
theorem q48 : (Jvm.Cond.fieldLink "PedigreePeeling" (68 : Nat) "PedigreePeeling" "used" "I") ∈ lw_all := lw_g (lw_at lw_m1 19 rfl) rfl
theorem q49 : (Jvm.Cond.fieldLink "PedigreePeeling" (22 : Nat) "PedigreePeeling" "scope" "[I") ∈ lw_all := lw_g (lw_at lw_m1 20 rfl) rfl
theorem q50 : (Jvm.Cond.fieldLink "PedigreePeeling" (25 : Nat) "PedigreePeeling" "begin" "[I") ∈ lw_all := lw_g (lw_at lw_m1 21 rfl) rfl
theorem q51 : (Jvm.Cond.fieldLink "PedigreePeeling" (28 : Nat) "PedigreePeeling" "cell" "[J") ∈ lw_all := lw_g (lw_at lw_m1 22 rfl) rfl
theorem q52 : (Jvm.Cond.fieldLink "PedigreePeeling" (32 : Nat) "PedigreePeeling" "genotype" "[I") ∈ lw_all := lw_g (lw_at lw_m1 23 rfl) rfl
theorem q53 : (Jvm.Cond.lays "PedigreePeeling" "PedigreePeeling" "count" "I") ∈ lw_all := lw_g (lw_at lw_m1 24 rfl) rfl
theorem q54 : (Jvm.Cond.soleField "PedigreePeeling" "count") ∈ lw_all := lw_g (lw_at lw_m1 25 rfl) rfl
theorem q55 : (Jvm.Cond.lays "PedigreePeeling" "PedigreePeeling" "q" "I") ∈ lw_all := lw_g (lw_at lw_m1 26 rfl) rfl
theorem q56 : (Jvm.Cond.soleField "PedigreePeeling" "q") ∈ lw_all := lw_g (lw_at lw_m1 27 rfl) rfl
theorem q57 : (Jvm.Cond.laysFinal "PedigreePeeling" "PedigreePeeling" "mother" "[I") ∈ lw_all := lw_g (lw_at lw_m1 28 rfl) rfl
theorem q58 : (Jvm.Cond.soleField "PedigreePeeling" "mother") ∈ lw_all := lw_g (lw_at lw_m1 29 rfl) rfl
theorem q59 : (Jvm.Cond.laysFinal "PedigreePeeling" "PedigreePeeling" "father" "[I") ∈ lw_all := lw_g (lw_at lw_m1 30 rfl) rfl
theorem q60 : (Jvm.Cond.soleField "PedigreePeeling" "father") ∈ lw_all := lw_g (lw_at lw_m1 31 rfl) rfl
theorem q61 : (Jvm.Cond.laysFinal "PedigreePeeling" "PedigreePeeling" "seen" "[I") ∈ lw_all := lw_g (lw_at lw_m1 32 rfl) rfl
theorem q62 : (Jvm.Cond.soleField "PedigreePeeling" "seen") ∈ lw_all := lw_g (lw_at lw_m1 33 rfl) rfl
theorem q63 : (Jvm.Cond.laysFinal "PedigreePeeling" "PedigreePeeling" "allowed" "[I") ∈ lw_all := lw_g (lw_at lw_m1 34 rfl) rfl
theorem q64 : (Jvm.Cond.soleField "PedigreePeeling" "allowed") ∈ lw_all := lw_g (lw_at lw_m1 35 rfl) rfl
theorem q65 : (Jvm.Cond.lays "PedigreePeeling" "PedigreePeeling" "onlyWhether" "Z") ∈ lw_all := lw_g (lw_at lw_m1 36 rfl) rfl
theorem q66 : (Jvm.Cond.soleField "PedigreePeeling" "onlyWhether") ∈ lw_all := lw_g (lw_at lw_m1 37 rfl) rfl
theorem q67 : (Jvm.Cond.lays "PedigreePeeling" "PedigreePeeling" "tables" "I") ∈ lw_all := lw_g (lw_at lw_m1 38 rfl) rfl
theorem q68 : (Jvm.Cond.soleField "PedigreePeeling" "tables") ∈ lw_all := lw_g (lw_at lw_m1 39 rfl) rfl
theorem q69 : (Jvm.Cond.lays "PedigreePeeling" "PedigreePeeling" "used" "I") ∈ lw_all := lw_g (lw_at lw_m1 40 rfl) rfl
theorem q70 : (Jvm.Cond.soleField "PedigreePeeling" "used") ∈ lw_all := lw_g (lw_at lw_m1 41 rfl) rfl
theorem q71 : (Jvm.Cond.laysFinal "PedigreePeeling" "PedigreePeeling" "scope" "[I") ∈ lw_all := lw_g (lw_at lw_m1 42 rfl) rfl
theorem q72 : (Jvm.Cond.soleField "PedigreePeeling" "scope") ∈ lw_all := lw_g (lw_at lw_m1 43 rfl) rfl
theorem q73 : (Jvm.Cond.laysFinal "PedigreePeeling" "PedigreePeeling" "begin" "[I") ∈ lw_all := lw_g (lw_at lw_m1 44 rfl) rfl
theorem q74 : (Jvm.Cond.soleField "PedigreePeeling" "begin") ∈ lw_all := lw_g (lw_at lw_m1 45 rfl) rfl
theorem q75 : (Jvm.Cond.laysFinal "PedigreePeeling" "PedigreePeeling" "cell" "[J") ∈ lw_all := lw_g (lw_at lw_m1 46 rfl) rfl
theorem q76 : (Jvm.Cond.soleField "PedigreePeeling" "cell") ∈ lw_all := lw_g (lw_at lw_m1 47 rfl) rfl
theorem q77 : (Jvm.Cond.laysFinal "PedigreePeeling" "PedigreePeeling" "genotype" "[I") ∈ lw_all := lw_g (lw_at lw_m1 48 rfl) rfl
theorem q78 : (Jvm.Cond.soleField "PedigreePeeling" "genotype") ∈ lw_all := lw_g (lw_at lw_m1 49 rfl) rfl
theorem q79 : (Jvm.Cond.superclass "PedigreePeeling" "java/lang/Object") ∈ lw_all := lw_g (lw_at lw_m1 50 rfl) rfl
theorem q83 : (Jvm.Cond.instanceMethod ({ cls := "PedigreePeeling", name := "founder", desc := "()I" } : Jvm.MethodName)) ∈ lw_all := lw_g (lw_at lw_m1 54 rfl) rfl
theorem q84 : (Jvm.Cond.selects "PedigreePeeling" ({ cls := "PedigreePeeling", name := "founder", desc := "()I" } : Jvm.MethodName) ({ cls := "PedigreePeeling", name := "founder", desc := "()I" } : Jvm.MethodName)) ∈ lw_all := lw_g (lw_at lw_m1 55 rfl) rfl
theorem q85 : (Jvm.Cond.code ({ cls := "PedigreePeeling", name := "founder", desc := "()I" } : Jvm.MethodName) prog_1_method_5_code (1 : Nat) (Option.some Jvm.ClassFile.FieldType.int)) ∈ lw_all := lw_g (lw_at lw_m1 56 rfl) rfl
theorem q86 : (Jvm.Cond.methodLink "PedigreePeeling" (42 : Nat) ({ cls := "PedigreePeeling", name := "add", desc := "(II)I" } : Jvm.MethodName)) ∈ lw_all := lw_g (lw_at lw_m1 57 rfl) rfl
theorem q87 : (Jvm.Cond.privateMethod ({ cls := "PedigreePeeling", name := "add", desc := "(II)I" } : Jvm.MethodName)) ∈ lw_tbl := lw_at lw_m1 58 rfl
theorem q88 : (Jvm.Cond.instanceMethod ({ cls := "PedigreePeeling", name := "add", desc := "(II)I" } : Jvm.MethodName)) ∈ lw_all := lw_g (lw_at lw_m1 59 rfl) rfl
theorem q89 : (Jvm.Cond.code ({ cls := "PedigreePeeling", name := "add", desc := "(II)I" } : Jvm.MethodName) prog_1_method_2_code (4 : Nat) (Option.some Jvm.ClassFile.FieldType.int)) ∈ lw_all := lw_g (lw_at lw_m1 60 rfl) rfl
theorem q91 : (Jvm.Cond.instanceMethod ({ cls := "PedigreePeeling", name := "child", desc := "(II)I" } : Jvm.MethodName)) ∈ lw_all := lw_g (lw_at lw_m1 62 rfl) rfl
theorem q92 : (Jvm.Cond.selects "PedigreePeeling" ({ cls := "PedigreePeeling", name := "child", desc := "(II)I" } : Jvm.MethodName) ({ cls := "PedigreePeeling", name := "child", desc := "(II)I" } : Jvm.MethodName)) ∈ lw_all := lw_g (lw_at lw_m1 63 rfl) rfl
theorem q93 : (Jvm.Cond.code ({ cls := "PedigreePeeling", name := "child", desc := "(II)I" } : Jvm.MethodName) prog_1_method_6_code (3 : Nat) (Option.some Jvm.ClassFile.FieldType.int)) ∈ lw_all := lw_g (lw_at lw_m1 64 rfl) rfl
theorem q94 : (Jvm.Cond.methodLink "PedigreePeeling" (46 : Nat) ({ cls := "PedigreePeeling", name := "bad", desc := "(I)Z" } : Jvm.MethodName)) ∈ lw_all := lw_g (lw_at lw_m1 65 rfl) rfl
theorem q95 : (Jvm.Cond.privateMethod ({ cls := "PedigreePeeling", name := "bad", desc := "(I)Z" } : Jvm.MethodName)) ∈ lw_tbl := lw_at lw_m1 66 rfl
theorem q96 : (Jvm.Cond.instanceMethod ({ cls := "PedigreePeeling", name := "bad", desc := "(I)Z" } : Jvm.MethodName)) ∈ lw_all := lw_g (lw_at lw_m1 67 rfl) rfl
theorem q97 : (Jvm.Cond.code ({ cls := "PedigreePeeling", name := "bad", desc := "(I)Z" } : Jvm.MethodName) prog_1_method_3_code (2 : Nat) (Option.some Jvm.ClassFile.FieldType.boolean)) ∈ lw_all := lw_g (lw_at lw_m1 68 rfl) rfl
theorem q99 : (Jvm.Cond.instanceMethod ({ cls := "PedigreePeeling", name := "remove", desc := "()I" } : Jvm.MethodName)) ∈ lw_all := lw_g (lw_at lw_m1 70 rfl) rfl
theorem q100 : (Jvm.Cond.selects "PedigreePeeling" ({ cls := "PedigreePeeling", name := "remove", desc := "()I" } : Jvm.MethodName) ({ cls := "PedigreePeeling", name := "remove", desc := "()I" } : Jvm.MethodName)) ∈ lw_all := lw_g (lw_at lw_m1 71 rfl) rfl
theorem q101 : (Jvm.Cond.code ({ cls := "PedigreePeeling", name := "remove", desc := "()I" } : Jvm.MethodName) prog_1_method_7_code (1 : Nat) (Option.some Jvm.ClassFile.FieldType.int)) ∈ lw_all := lw_g (lw_at lw_m1 72 rfl) rfl
theorem q103 : (Jvm.Cond.instanceMethod ({ cls := "PedigreePeeling", name := "persons", desc := "()I" } : Jvm.MethodName)) ∈ lw_all := lw_g (lw_at lw_m1 74 rfl) rfl
theorem q104 : (Jvm.Cond.selects "PedigreePeeling" ({ cls := "PedigreePeeling", name := "persons", desc := "()I" } : Jvm.MethodName) ({ cls := "PedigreePeeling", name := "persons", desc := "()I" } : Jvm.MethodName)) ∈ lw_all := lw_g (lw_at lw_m1 75 rfl) rfl
theorem q105 : (Jvm.Cond.code ({ cls := "PedigreePeeling", name := "persons", desc := "()I" } : Jvm.MethodName) prog_1_method_8_code (1 : Nat) (Option.some Jvm.ClassFile.FieldType.int)) ∈ lw_all := lw_g (lw_at lw_m1 76 rfl) rfl
theorem q107 : (Jvm.Cond.instanceMethod ({ cls := "PedigreePeeling", name := "frequency", desc := "(I)I" } : Jvm.MethodName)) ∈ lw_all := lw_g (lw_at lw_m1 78 rfl) rfl
theorem q108 : (Jvm.Cond.selects "PedigreePeeling" ({ cls := "PedigreePeeling", name := "frequency", desc := "(I)I" } : Jvm.MethodName) ({ cls := "PedigreePeeling", name := "frequency", desc := "(I)I" } : Jvm.MethodName)) ∈ lw_all := lw_g (lw_at lw_m1 79 rfl) rfl
theorem q109 : (Jvm.Cond.code ({ cls := "PedigreePeeling", name := "frequency", desc := "(I)I" } : Jvm.MethodName) prog_1_method_9_code (3 : Nat) (Option.some Jvm.ClassFile.FieldType.int)) ∈ lw_all := lw_g (lw_at lw_m1 80 rfl) rfl
theorem q111 : (Jvm.Cond.instanceMethod ({ cls := "PedigreePeeling", name := "see", desc := "(III)I" } : Jvm.MethodName)) ∈ lw_all := lw_g (lw_at lw_m1 82 rfl) rfl
theorem q112 : (Jvm.Cond.selects "PedigreePeeling" ({ cls := "PedigreePeeling", name := "see", desc := "(III)I" } : Jvm.MethodName) ({ cls := "PedigreePeeling", name := "see", desc := "(III)I" } : Jvm.MethodName)) ∈ lw_all := lw_g (lw_at lw_m1 83 rfl) rfl
theorem q113 : (Jvm.Cond.code ({ cls := "PedigreePeeling", name := "see", desc := "(III)I" } : Jvm.MethodName) prog_1_method_10_code (5 : Nat) (Option.some Jvm.ClassFile.FieldType.int)) ∈ lw_all := lw_g (lw_at lw_m1 84 rfl) rfl
theorem q114 : (Jvm.Cond.methodLink "PedigreePeeling" (50 : Nat) ({ cls := "PedigreePeeling", name := "badGenotype", desc := "(I)Z" } : Jvm.MethodName)) ∈ lw_all := lw_g (lw_at lw_m1 85 rfl) rfl
theorem q115 : (Jvm.Cond.privateMethod ({ cls := "PedigreePeeling", name := "badGenotype", desc := "(I)Z" } : Jvm.MethodName)) ∈ lw_tbl := lw_at lw_m1 86 rfl
theorem q116 : (Jvm.Cond.instanceMethod ({ cls := "PedigreePeeling", name := "badGenotype", desc := "(I)Z" } : Jvm.MethodName)) ∈ lw_all := lw_g (lw_at lw_m1 87 rfl) rfl
theorem q117 : (Jvm.Cond.code ({ cls := "PedigreePeeling", name := "badGenotype", desc := "(I)Z" } : Jvm.MethodName) prog_1_method_4_code (2 : Nat) (Option.some Jvm.ClassFile.FieldType.boolean)) ∈ lw_all := lw_g (lw_at lw_m1 88 rfl) rfl
theorem q119 : (Jvm.Cond.instanceMethod ({ cls := "PedigreePeeling", name := "seen", desc := "(II)I" } : Jvm.MethodName)) ∈ lw_all := lw_g (lw_at lw_m1 90 rfl) rfl
theorem q120 : (Jvm.Cond.selects "PedigreePeeling" ({ cls := "PedigreePeeling", name := "seen", desc := "(II)I" } : Jvm.MethodName) ({ cls := "PedigreePeeling", name := "seen", desc := "(II)I" } : Jvm.MethodName)) ∈ lw_all := lw_g (lw_at lw_m1 91 rfl) rfl
theorem q121 : (Jvm.Cond.code ({ cls := "PedigreePeeling", name := "seen", desc := "(II)I" } : Jvm.MethodName) prog_1_method_11_code (3 : Nat) (Option.some Jvm.ClassFile.FieldType.int)) ∈ lw_all := lw_g (lw_at lw_m1 92 rfl) rfl
theorem q123 : (Jvm.Cond.instanceMethod ({ cls := "PedigreePeeling", name := "likelihood", desc := "()J" } : Jvm.MethodName)) ∈ lw_all := lw_g (lw_at lw_m1 94 rfl) rfl
theorem q124 : (Jvm.Cond.selects "PedigreePeeling" ({ cls := "PedigreePeeling", name := "likelihood", desc := "()J" } : Jvm.MethodName) ({ cls := "PedigreePeeling", name := "likelihood", desc := "()J" } : Jvm.MethodName)) ∈ lw_all := lw_g (lw_at lw_m1 95 rfl) rfl
theorem q125 : (Jvm.Cond.code ({ cls := "PedigreePeeling", name := "likelihood", desc := "()J" } : Jvm.MethodName) prog_1_method_27_code (1 : Nat) (Option.some Jvm.ClassFile.FieldType.long)) ∈ lw_all := lw_g (lw_at lw_m1 96 rfl) rfl
theorem q126 : (Jvm.Cond.methodLink "PedigreePeeling" (108 : Nat) ({ cls := "PedigreePeeling", name := "allowAll", desc := "()V" } : Jvm.MethodName)) ∈ lw_all := lw_g (lw_at lw_m1 97 rfl) rfl
theorem q127 : (Jvm.Cond.privateMethod ({ cls := "PedigreePeeling", name := "allowAll", desc := "()V" } : Jvm.MethodName)) ∈ lw_tbl := lw_at lw_m1 98 rfl
theorem q128 : (Jvm.Cond.instanceMethod ({ cls := "PedigreePeeling", name := "allowAll", desc := "()V" } : Jvm.MethodName)) ∈ lw_all := lw_g (lw_at lw_m1 99 rfl) rfl
theorem q129 : (Jvm.Cond.code ({ cls := "PedigreePeeling", name := "allowAll", desc := "()V" } : Jvm.MethodName) prog_1_method_26_code (2 : Nat) (Option.none : Option Jvm.ClassFile.FieldType)) ∈ lw_all := lw_g (lw_at lw_m1 100 rfl) rfl
theorem q130 : (Jvm.Cond.methodLink "PedigreePeeling" (111 : Nat) ({ cls := "PedigreePeeling", name := "sum", desc := "()J" } : Jvm.MethodName)) ∈ lw_all := lw_g (lw_at lw_m1 101 rfl) rfl
theorem q131 : (Jvm.Cond.privateMethod ({ cls := "PedigreePeeling", name := "sum", desc := "()J" } : Jvm.MethodName)) ∈ lw_tbl := lw_at lw_m1 102 rfl
theorem q132 : (Jvm.Cond.instanceMethod ({ cls := "PedigreePeeling", name := "sum", desc := "()J" } : Jvm.MethodName)) ∈ lw_all := lw_g (lw_at lw_m1 103 rfl) rfl
theorem q133 : (Jvm.Cond.code ({ cls := "PedigreePeeling", name := "sum", desc := "()J" } : Jvm.MethodName) prog_1_method_25_code (5 : Nat) (Option.some Jvm.ClassFile.FieldType.long)) ∈ lw_all := lw_g (lw_at lw_m1 104 rfl) rfl
theorem q134 : (Jvm.Cond.methodLink "PedigreePeeling" (98 : Nat) ({ cls := "PedigreePeeling", name := "personTable", desc := "(I)V" } : Jvm.MethodName)) ∈ lw_all := lw_g (lw_at lw_m1 105 rfl) rfl
theorem q135 : (Jvm.Cond.privateMethod ({ cls := "PedigreePeeling", name := "personTable", desc := "(I)V" } : Jvm.MethodName)) ∈ lw_tbl := lw_at lw_m1 106 rfl
theorem q136 : (Jvm.Cond.instanceMethod ({ cls := "PedigreePeeling", name := "personTable", desc := "(I)V" } : Jvm.MethodName)) ∈ lw_all := lw_g (lw_at lw_m1 107 rfl) rfl
theorem q137 : (Jvm.Cond.code ({ cls := "PedigreePeeling", name := "personTable", desc := "(I)V" } : Jvm.MethodName) prog_1_method_20_code (7 : Nat) (Option.none : Option Jvm.ClassFile.FieldType)) ∈ lw_all := lw_g (lw_at lw_m1 108 rfl) rfl
theorem q138 : (Jvm.Cond.methodLink "PedigreePeeling" (77 : Nat) ({ cls := "PedigreePeeling", name := "openTable", desc := "(I)I" } : Jvm.MethodName)) ∈ lw_all := lw_g (lw_at lw_m1 109 rfl) rfl
theorem q139 : (Jvm.Cond.privateMethod ({ cls := "PedigreePeeling", name := "openTable", desc := "(I)I" } : Jvm.MethodName)) ∈ lw_tbl := lw_at lw_m1 110 rfl
theorem q140 : (Jvm.Cond.instanceMethod ({ cls := "PedigreePeeling", name := "openTable", desc := "(I)I" } : Jvm.MethodName)) ∈ lw_all := lw_g (lw_at lw_m1 111 rfl) rfl
theorem q141 : (Jvm.Cond.code ({ cls := "PedigreePeeling", name := "openTable", desc := "(I)I" } : Jvm.MethodName) prog_1_method_19_code (5 : Nat) (Option.some Jvm.ClassFile.FieldType.int)) ∈ lw_all := lw_g (lw_at lw_m1 112 rfl) rfl
theorem q142 : (Jvm.Cond.methodLink "PedigreePeeling" (71 : Nat) ({ cls := "PedigreePeeling", name := "sizeOf", desc := "(I)I" } : Jvm.MethodName)) ∈ lw_all := lw_g (lw_at lw_m1 113 rfl) rfl
theorem q143 : (Jvm.Cond.privateMethod ({ cls := "PedigreePeeling", name := "sizeOf", desc := "(I)I" } : Jvm.MethodName)) ∈ lw_tbl := lw_at lw_m1 114 rfl
theorem q144 : (Jvm.Cond.instanceMethod ({ cls := "PedigreePeeling", name := "sizeOf", desc := "(I)I" } : Jvm.MethodName)) ∈ lw_all := lw_g (lw_at lw_m1 115 rfl) rfl
theorem q145 : (Jvm.Cond.code ({ cls := "PedigreePeeling", name := "sizeOf", desc := "(I)I" } : Jvm.MethodName) prog_1_method_12_code (4 : Nat) (Option.some Jvm.ClassFile.FieldType.int)) ∈ lw_all := lw_g (lw_at lw_m1 116 rfl) rfl
theorem q146 : (Jvm.Cond.methodLink "PedigreePeeling" (74 : Nat) ({ cls := "PedigreePeeling", name := "power", desc := "(I)I" } : Jvm.MethodName)) ∈ lw_all := lw_g (lw_at lw_m1 117 rfl) rfl
theorem q147 : (Jvm.Cond.privateMethod ({ cls := "PedigreePeeling", name := "power", desc := "(I)I" } : Jvm.MethodName)) ∈ lw_tbl := lw_at lw_m1 118 rfl
theorem q148 : (Jvm.Cond.instanceMethod ({ cls := "PedigreePeeling", name := "power", desc := "(I)I" } : Jvm.MethodName)) ∈ lw_all := lw_g (lw_at lw_m1 119 rfl) rfl
theorem q149 : (Jvm.Cond.code ({ cls := "PedigreePeeling", name := "power", desc := "(I)I" } : Jvm.MethodName) prog_1_method_13_code (4 : Nat) (Option.some Jvm.ClassFile.FieldType.int)) ∈ lw_all := lw_g (lw_at lw_m1 120 rfl) rfl
theorem q150 : (Jvm.Cond.methodLink "PedigreePeeling" (80 : Nat) ({ cls := "PedigreePeeling", name := "spread", desc := "(II)V" } : Jvm.MethodName)) ∈ lw_all := lw_g (lw_at lw_m1 121 rfl) rfl
theorem q151 : (Jvm.Cond.privateMethod ({ cls := "PedigreePeeling", name := "spread", desc := "(II)V" } : Jvm.MethodName)) ∈ lw_tbl := lw_at lw_m1 122 rfl
theorem q152 : (Jvm.Cond.instanceMethod ({ cls := "PedigreePeeling", name := "spread", desc := "(II)V" } : Jvm.MethodName)) ∈ lw_all := lw_g (lw_at lw_m1 123 rfl) rfl
theorem q153 : (Jvm.Cond.code ({ cls := "PedigreePeeling", name := "spread", desc := "(II)V" } : Jvm.MethodName) prog_1_method_14_code (5 : Nat) (Option.none : Option Jvm.ClassFile.FieldType)) ∈ lw_all := lw_g (lw_at lw_m1 124 rfl) rfl
theorem q154 : (Jvm.Cond.methodLink "PedigreePeeling" (84 : Nat) ({ cls := "PedigreePeeling", name := "factor", desc := "(I)J" } : Jvm.MethodName)) ∈ lw_all := lw_g (lw_at lw_m1 125 rfl) rfl
theorem q155 : (Jvm.Cond.privateMethod ({ cls := "PedigreePeeling", name := "factor", desc := "(I)J" } : Jvm.MethodName)) ∈ lw_tbl := lw_at lw_m1 126 rfl
theorem q156 : (Jvm.Cond.instanceMethod ({ cls := "PedigreePeeling", name := "factor", desc := "(I)J" } : Jvm.MethodName)) ∈ lw_all := lw_g (lw_at lw_m1 127 rfl) rfl
theorem q157 : (Jvm.Cond.code ({ cls := "PedigreePeeling", name := "factor", desc := "(I)J" } : Jvm.MethodName) prog_1_method_18_code (5 : Nat) (Option.some Jvm.ClassFile.FieldType.long)) ∈ lw_all := lw_g (lw_at lw_m1 128 rfl) rfl
theorem q158 : (Jvm.Cond.methodLink "PedigreePeeling" (53 : Nat) ({ cls := "PedigreePeeling", name := "founderWeight", desc := "(I)I" } : Jvm.MethodName)) ∈ lw_all := lw_g (lw_at lw_m1 129 rfl) rfl
theorem q159 : (Jvm.Cond.privateMethod ({ cls := "PedigreePeeling", name := "founderWeight", desc := "(I)I" } : Jvm.MethodName)) ∈ lw_tbl := lw_at lw_m1 130 rfl
theorem q160 : (Jvm.Cond.instanceMethod ({ cls := "PedigreePeeling", name := "founderWeight", desc := "(I)I" } : Jvm.MethodName)) ∈ lw_all := lw_g (lw_at lw_m1 131 rfl) rfl
theorem q161 : (Jvm.Cond.code ({ cls := "PedigreePeeling", name := "founderWeight", desc := "(I)I" } : Jvm.MethodName) prog_1_method_16_code (2 : Nat) (Option.some Jvm.ClassFile.FieldType.int)) ∈ lw_all := lw_g (lw_at lw_m1 132 rfl) rfl
theorem q162 : (Jvm.Cond.methodLink "PedigreePeeling" (57 : Nat) ({ cls := "PedigreePeeling", name := "passed", desc := "(III)I" } : Jvm.MethodName)) ∈ lw_all := lw_g (lw_at lw_m1 133 rfl) rfl
theorem q163 : (Jvm.Cond.privateMethod ({ cls := "PedigreePeeling", name := "passed", desc := "(III)I" } : Jvm.MethodName)) ∈ lw_tbl := lw_at lw_m1 134 rfl
theorem q164 : (Jvm.Cond.instanceMethod ({ cls := "PedigreePeeling", name := "passed", desc := "(III)I" } : Jvm.MethodName)) ∈ lw_all := lw_g (lw_at lw_m1 135 rfl) rfl
theorem q165 : (Jvm.Cond.code ({ cls := "PedigreePeeling", name := "passed", desc := "(III)I" } : Jvm.MethodName) prog_1_method_17_code (4 : Nat) (Option.some Jvm.ClassFile.FieldType.int)) ∈ lw_all := lw_g (lw_at lw_m1 136 rfl) rfl
theorem q166 : (Jvm.Cond.methodLink "PedigreePeeling" (102 : Nat) ({ cls := "PedigreePeeling", name := "easiest", desc := "(I)I" } : Jvm.MethodName)) ∈ lw_all := lw_g (lw_at lw_m1 137 rfl) rfl
theorem q167 : (Jvm.Cond.privateMethod ({ cls := "PedigreePeeling", name := "easiest", desc := "(I)I" } : Jvm.MethodName)) ∈ lw_tbl := lw_at lw_m1 138 rfl
theorem q168 : (Jvm.Cond.instanceMethod ({ cls := "PedigreePeeling", name := "easiest", desc := "(I)I" } : Jvm.MethodName)) ∈ lw_all := lw_g (lw_at lw_m1 139 rfl) rfl
theorem q169 : (Jvm.Cond.code ({ cls := "PedigreePeeling", name := "easiest", desc := "(I)I" } : Jvm.MethodName) prog_1_method_22_code (7 : Nat) (Option.some Jvm.ClassFile.FieldType.int)) ∈ lw_all := lw_g (lw_at lw_m1 140 rfl) rfl
theorem q170 : (Jvm.Cond.methodLink "PedigreePeeling" (88 : Nat) ({ cls := "PedigreePeeling", name := "around", desc := "(I)I" } : Jvm.MethodName)) ∈ lw_all := lw_g (lw_at lw_m1 141 rfl) rfl
theorem q171 : (Jvm.Cond.privateMethod ({ cls := "PedigreePeeling", name := "around", desc := "(I)I" } : Jvm.MethodName)) ∈ lw_tbl := lw_at lw_m1 142 rfl
theorem q172 : (Jvm.Cond.instanceMethod ({ cls := "PedigreePeeling", name := "around", desc := "(I)I" } : Jvm.MethodName)) ∈ lw_all := lw_g (lw_at lw_m1 143 rfl) rfl
theorem q173 : (Jvm.Cond.code ({ cls := "PedigreePeeling", name := "around", desc := "(I)I" } : Jvm.MethodName) prog_1_method_21_code (4 : Nat) (Option.some Jvm.ClassFile.FieldType.int)) ∈ lw_all := lw_g (lw_at lw_m1 144 rfl) rfl
theorem q174 : (Jvm.Cond.methodLink "PedigreePeeling" (105 : Nat) ({ cls := "PedigreePeeling", name := "takeOut", desc := "(I)V" } : Jvm.MethodName)) ∈ lw_all := lw_g (lw_at lw_m1 145 rfl) rfl
theorem q175 : (Jvm.Cond.privateMethod ({ cls := "PedigreePeeling", name := "takeOut", desc := "(I)V" } : Jvm.MethodName)) ∈ lw_tbl := lw_at lw_m1 146 rfl
theorem q176 : (Jvm.Cond.instanceMethod ({ cls := "PedigreePeeling", name := "takeOut", desc := "(I)V" } : Jvm.MethodName)) ∈ lw_all := lw_g (lw_at lw_m1 147 rfl) rfl
theorem q177 : (Jvm.Cond.code ({ cls := "PedigreePeeling", name := "takeOut", desc := "(I)V" } : Jvm.MethodName) prog_1_method_24_code (13 : Nat) (Option.none : Option Jvm.ClassFile.FieldType)) ∈ lw_all := lw_g (lw_at lw_m1 148 rfl) rfl
theorem q178 : (Jvm.Cond.methodLink "PedigreePeeling" (94 : Nat) ({ cls := "PedigreePeeling", name := "product", desc := "(II)J" } : Jvm.MethodName)) ∈ lw_all := lw_g (lw_at lw_m1 149 rfl) rfl
theorem q179 : (Jvm.Cond.privateMethod ({ cls := "PedigreePeeling", name := "product", desc := "(II)J" } : Jvm.MethodName)) ∈ lw_tbl := lw_at lw_m1 150 rfl
theorem q180 : (Jvm.Cond.instanceMethod ({ cls := "PedigreePeeling", name := "product", desc := "(II)J" } : Jvm.MethodName)) ∈ lw_all := lw_g (lw_at lw_m1 151 rfl) rfl
theorem q181 : (Jvm.Cond.code ({ cls := "PedigreePeeling", name := "product", desc := "(II)J" } : Jvm.MethodName) prog_1_method_23_code (7 : Nat) (Option.some Jvm.ClassFile.FieldType.long)) ∈ lw_all := lw_g (lw_at lw_m1 152 rfl) rfl
theorem q182 : (Jvm.Cond.methodLink "PedigreePeeling" (91 : Nat) ({ cls := "PedigreePeeling", name := "placeIn", desc := "(I)I" } : Jvm.MethodName)) ∈ lw_all := lw_g (lw_at lw_m1 153 rfl) rfl
theorem q183 : (Jvm.Cond.privateMethod ({ cls := "PedigreePeeling", name := "placeIn", desc := "(I)I" } : Jvm.MethodName)) ∈ lw_tbl := lw_at lw_m1 154 rfl
theorem q184 : (Jvm.Cond.instanceMethod ({ cls := "PedigreePeeling", name := "placeIn", desc := "(I)I" } : Jvm.MethodName)) ∈ lw_all := lw_g (lw_at lw_m1 155 rfl) rfl
theorem q185 : (Jvm.Cond.code ({ cls := "PedigreePeeling", name := "placeIn", desc := "(I)I" } : Jvm.MethodName) prog_1_method_15_code (4 : Nat) (Option.some Jvm.ClassFile.FieldType.int)) ∈ lw_all := lw_g (lw_at lw_m1 156 rfl) rfl
theorem q187 : (Jvm.Cond.instanceMethod ({ cls := "PedigreePeeling", name := "share", desc := "(II)J" } : Jvm.MethodName)) ∈ lw_all := lw_g (lw_at lw_m1 158 rfl) rfl
theorem q188 : (Jvm.Cond.selects "PedigreePeeling" ({ cls := "PedigreePeeling", name := "share", desc := "(II)J" } : Jvm.MethodName) ({ cls := "PedigreePeeling", name := "share", desc := "(II)J" } : Jvm.MethodName)) ∈ lw_all := lw_g (lw_at lw_m1 159 rfl) rfl
theorem q189 : (Jvm.Cond.code ({ cls := "PedigreePeeling", name := "share", desc := "(II)J" } : Jvm.MethodName) prog_1_method_28_code (3 : Nat) (Option.some Jvm.ClassFile.FieldType.long)) ∈ lw_all := lw_g (lw_at lw_m1 160 rfl) rfl
theorem q191 : (Jvm.Cond.instanceMethod ({ cls := "PedigreePeeling", name := "shareOfTwo", desc := "(IIII)J" } : Jvm.MethodName)) ∈ lw_all := lw_g (lw_at lw_m1 162 rfl) rfl
theorem q192 : (Jvm.Cond.selects "PedigreePeeling" ({ cls := "PedigreePeeling", name := "shareOfTwo", desc := "(IIII)J" } : Jvm.MethodName) ({ cls := "PedigreePeeling", name := "shareOfTwo", desc := "(IIII)J" } : Jvm.MethodName)) ∈ lw_all := lw_g (lw_at lw_m1 163 rfl) rfl
theorem q193 : (Jvm.Cond.code ({ cls := "PedigreePeeling", name := "shareOfTwo", desc := "(IIII)J" } : Jvm.MethodName) prog_1_method_29_code (5 : Nat) (Option.some Jvm.ClassFile.FieldType.long)) ∈ lw_all := lw_g (lw_at lw_m1 164 rfl) rfl
theorem q195 : (Jvm.Cond.instanceMethod ({ cls := "PedigreePeeling", name := "copies", desc := "(I)J" } : Jvm.MethodName)) ∈ lw_all := lw_g (lw_at lw_m1 166 rfl) rfl
theorem q196 : (Jvm.Cond.selects "PedigreePeeling" ({ cls := "PedigreePeeling", name := "copies", desc := "(I)J" } : Jvm.MethodName) ({ cls := "PedigreePeeling", name := "copies", desc := "(I)J" } : Jvm.MethodName)) ∈ lw_all := lw_g (lw_at lw_m1 167 rfl) rfl
theorem q197 : (Jvm.Cond.code ({ cls := "PedigreePeeling", name := "copies", desc := "(I)J" } : Jvm.MethodName) prog_1_method_30_code (6 : Nat) (Option.some Jvm.ClassFile.FieldType.long)) ∈ lw_all := lw_g (lw_at lw_m1 168 rfl) rfl
theorem q198 : (Jvm.Cond.methodLink "PedigreePeeling" (115 : Nat) ({ cls := "PedigreePeeling", name := "share", desc := "(II)J" } : Jvm.MethodName)) ∈ lw_all := lw_g (lw_at lw_m1 169 rfl) rfl
theorem q199 : (Jvm.Cond.constantLong "PedigreePeeling" (118 : Nat) (2 : Int64)) ∈ lw_all := lw_g (lw_at lw_m1 170 rfl) rfl
theorem q201 : (Jvm.Cond.instanceMethod ({ cls := "PedigreePeeling", name := "possible", desc := "(I)I" } : Jvm.MethodName)) ∈ lw_all := lw_g (lw_at lw_m1 172 rfl) rfl
theorem q202 : (Jvm.Cond.selects "PedigreePeeling" ({ cls := "PedigreePeeling", name := "possible", desc := "(I)I" } : Jvm.MethodName) ({ cls := "PedigreePeeling", name := "possible", desc := "(I)I" } : Jvm.MethodName)) ∈ lw_all := lw_g (lw_at lw_m1 173 rfl) rfl
theorem q203 : (Jvm.Cond.code ({ cls := "PedigreePeeling", name := "possible", desc := "(I)I" } : Jvm.MethodName) prog_1_method_31_code (6 : Nat) (Option.some Jvm.ClassFile.FieldType.int)) ∈ lw_all := lw_g (lw_at lw_m1 174 rfl) rfl
theorem q205 : (Jvm.Cond.instanceMethod ({ cls := "PedigreePeeling", name := "before", desc := "(II)Z" } : Jvm.MethodName)) ∈ lw_all := lw_g (lw_at lw_m1 176 rfl) rfl
theorem q206 : (Jvm.Cond.selects "PedigreePeeling" ({ cls := "PedigreePeeling", name := "before", desc := "(II)Z" } : Jvm.MethodName) ({ cls := "PedigreePeeling", name := "before", desc := "(II)Z" } : Jvm.MethodName)) ∈ lw_all := lw_g (lw_at lw_m1 177 rfl) rfl
theorem q207 : (Jvm.Cond.code ({ cls := "PedigreePeeling", name := "before", desc := "(II)Z" } : Jvm.MethodName) prog_1_method_32_code (5 : Nat) (Option.some Jvm.ClassFile.FieldType.boolean)) ∈ lw_all := lw_g (lw_at lw_m1 178 rfl) rfl
theorem in_X0 : ∀ w ∈ wsX00, w ∈ lw_all := lw_in wsX00 [53, 55, 57, 59, 61, 63, 65, 67, 69, 71, 73, 75, 77] (by decide +kernel) (by decide +kernel)
/-! PedigreePeelingModel -/
def RX1 : String := "PedigreePeelingModel"
def TX1 : u_T := fun k => match k with
  | 0 => ("PedigreePeelingModel", "one", "[I", true)
  | 1 => ("PedigreePeelingModel", "other", "[I", true)
  | 2 => ("PedigreePeelingModel", "sights", "[I", true)
  | 3 => ("PedigreePeelingModel", "count", "I", false)
  | _ => ("PedigreePeelingModel", "q", "I", false)
def tyX1 : Nat → FieldType := fun k => match k with
  | 0 => .array .int
  | 1 => .array .int
  | 2 => .array .int
  | 3 => .int
  | _ => .int
abbrev wsX10 : List Cond := u_ws RX1 TX1 5
theorem nmX1 : ∀ a, a < 5 → ∀ b, b < 5 → a ≠ b → (TX1 a).2.1 ≠ (TX1 b).2.1 := by decide +kernel
theorem tyX1_ok : ∀ k, k < 5 → parseFieldDescriptor (TX1 k).2.2.1 = some (tyX1 k) := by decide +kernel
abbrev cX1_init : ByteArray := prog_3_method_1_code
def yX1_init : MethodName := ⟨RX1, "<init>", "()V"⟩
abbrev cX1_founder : ByteArray := prog_3_method_5_code
def yX1_founder : MethodName := ⟨RX1, "founder", "()I"⟩
abbrev cX1_add : ByteArray := prog_3_method_4_code
def yX1_add : MethodName := ⟨RX1, "add", "(II)I"⟩
abbrev cX1_child : ByteArray := prog_3_method_6_code
def yX1_child : MethodName := ⟨RX1, "child", "(II)I"⟩
abbrev cX1_isPerson : ByteArray := prog_3_method_2_code
def yX1_isPerson : MethodName := ⟨RX1, "isPerson", "(I)Z"⟩
abbrev cX1_remove : ByteArray := prog_3_method_7_code
def yX1_remove : MethodName := ⟨RX1, "remove", "()I"⟩
abbrev cX1_persons : ByteArray := prog_3_method_8_code
def yX1_persons : MethodName := ⟨RX1, "persons", "()I"⟩
abbrev cX1_frequency : ByteArray := prog_3_method_9_code
def yX1_frequency : MethodName := ⟨RX1, "frequency", "(I)I"⟩
abbrev cX1_see : ByteArray := prog_3_method_10_code
def yX1_see : MethodName := ⟨RX1, "see", "(III)I"⟩
abbrev cX1_isGenotype : ByteArray := prog_3_method_3_code
def yX1_isGenotype : MethodName := ⟨RX1, "isGenotype", "(I)Z"⟩
abbrev cX1_seen : ByteArray := prog_3_method_11_code
def yX1_seen : MethodName := ⟨RX1, "seen", "(II)I"⟩
abbrev cX1_likelihood : ByteArray := prog_3_method_18_code
def yX1_likelihood : MethodName := ⟨RX1, "likelihood", "()J"⟩
abbrev cX1_power : ByteArray := prog_3_method_12_code
def yX1_power : MethodName := ⟨RX1, "power", "(I)I"⟩
abbrev cX1_weight : ByteArray := prog_3_method_17_code
def yX1_weight : MethodName := ⟨RX1, "weight", "(I)J"⟩
abbrev cX1_factor : ByteArray := prog_3_method_16_code
def yX1_factor : MethodName := ⟨RX1, "factor", "(II)I"⟩
abbrev cX1_genotype : ByteArray := prog_3_method_13_code
def yX1_genotype : MethodName := ⟨RX1, "genotype", "(II)I"⟩
abbrev cX1_founded : ByteArray := prog_3_method_15_code
def yX1_founded : MethodName := ⟨RX1, "founded", "(I)I"⟩
abbrev cX1_inherited : ByteArray := prog_3_method_14_code
def yX1_inherited : MethodName := ⟨RX1, "inherited", "(III)I"⟩
abbrev cX1_share : ByteArray := prog_3_method_19_code
def yX1_share : MethodName := ⟨RX1, "share", "(II)J"⟩
abbrev cX1_shareOfTwo : ByteArray := prog_3_method_20_code
def yX1_shareOfTwo : MethodName := ⟨RX1, "shareOfTwo", "(IIII)J"⟩
abbrev cX1_copies : ByteArray := prog_3_method_21_code
def yX1_copies : MethodName := ⟨RX1, "copies", "(I)J"⟩
abbrev cX1_possible : ByteArray := prog_3_method_23_code
def yX1_possible : MethodName := ⟨RX1, "possible", "(I)I"⟩
abbrev cX1_isPossible : ByteArray := prog_3_method_22_code
def yX1_isPossible : MethodName := ⟨RX1, "isPossible", "(I)Z"⟩
abbrev cX1_before : ByteArray := prog_3_method_25_code
def yX1_before : MethodName := ⟨RX1, "before", "(II)Z"⟩
abbrev cX1_forefathers : ByteArray := prog_3_method_24_code
def yX1_forefathers : MethodName := ⟨RX1, "forefathers", "(I)I"⟩
theorem q31 : (Jvm.Cond.initialized "PedigreePeelingModel") ∈ lw_all := lw_g (lw_at lw_m1 2 rfl) rfl
theorem q209 : (Jvm.Cond.instantiable "PedigreePeelingModel" (5 : Nat)) ∈ lw_all := lw_g (lw_at lw_m1 180 rfl) rfl
theorem q211 : (Jvm.Cond.instanceMethod ({ cls := "PedigreePeelingModel", name := "<init>", desc := "()V" } : Jvm.MethodName)) ∈ lw_all := lw_g (lw_at lw_m1 182 rfl) rfl
theorem q212 : (Jvm.Cond.code ({ cls := "PedigreePeelingModel", name := "<init>", desc := "()V" } : Jvm.MethodName) prog_3_method_1_code (1 : Nat) (Option.none : Option Jvm.ClassFile.FieldType)) ∈ lw_all := lw_g (lw_at lw_m1 183 rfl) rfl
theorem q213 : (Jvm.Cond.methodLink "PedigreePeelingModel" (1 : Nat) ({ cls := "java/lang/Object", name := "<init>", desc := "()V" } : Jvm.MethodName)) ∈ lw_all := lw_g (lw_at lw_m1 184 rfl) rfl
theorem q214 : (Jvm.Cond.fieldLink "PedigreePeelingModel" (7 : Nat) "PedigreePeelingModel" "one" "[I") ∈ lw_all := lw_g (lw_at lw_m1 185 rfl) rfl
theorem q215 : (Jvm.Cond.fieldLink "PedigreePeelingModel" (13 : Nat) "PedigreePeelingModel" "other" "[I") ∈ lw_all := lw_g (lw_at lw_m1 186 rfl) rfl
theorem q216 : (Jvm.Cond.fieldLink "PedigreePeelingModel" (16 : Nat) "PedigreePeelingModel" "sights" "[I") ∈ lw_all := lw_g (lw_at lw_m1 187 rfl) rfl
theorem q217 : (Jvm.Cond.fieldLink "PedigreePeelingModel" (23 : Nat) "PedigreePeelingModel" "count" "I") ∈ lw_all := lw_g (lw_at lw_m1 188 rfl) rfl
theorem q218 : (Jvm.Cond.fieldLink "PedigreePeelingModel" (19 : Nat) "PedigreePeelingModel" "q" "I") ∈ lw_all := lw_g (lw_at lw_m1 189 rfl) rfl
theorem q219 : (Jvm.Cond.laysFinal "PedigreePeelingModel" "PedigreePeelingModel" "one" "[I") ∈ lw_all := lw_g (lw_at lw_m1 190 rfl) rfl
theorem q220 : (Jvm.Cond.soleField "PedigreePeelingModel" "one") ∈ lw_all := lw_g (lw_at lw_m1 191 rfl) rfl
theorem q221 : (Jvm.Cond.laysFinal "PedigreePeelingModel" "PedigreePeelingModel" "other" "[I") ∈ lw_all := lw_g (lw_at lw_m1 192 rfl) rfl
theorem q222 : (Jvm.Cond.soleField "PedigreePeelingModel" "other") ∈ lw_all := lw_g (lw_at lw_m1 193 rfl) rfl
theorem q223 : (Jvm.Cond.laysFinal "PedigreePeelingModel" "PedigreePeelingModel" "sights" "[I") ∈ lw_all := lw_g (lw_at lw_m1 194 rfl) rfl
theorem q224 : (Jvm.Cond.soleField "PedigreePeelingModel" "sights") ∈ lw_all := lw_g (lw_at lw_m1 195 rfl) rfl
theorem q225 : (Jvm.Cond.lays "PedigreePeelingModel" "PedigreePeelingModel" "count" "I") ∈ lw_all := lw_g (lw_at lw_m1 196 rfl) rfl
theorem q226 : (Jvm.Cond.soleField "PedigreePeelingModel" "count") ∈ lw_all := lw_g (lw_at lw_m1 197 rfl) rfl
theorem q227 : (Jvm.Cond.lays "PedigreePeelingModel" "PedigreePeelingModel" "q" "I") ∈ lw_all := lw_g (lw_at lw_m1 198 rfl) rfl
theorem q228 : (Jvm.Cond.soleField "PedigreePeelingModel" "q") ∈ lw_all := lw_g (lw_at lw_m1 199 rfl) rfl
theorem q229 : (Jvm.Cond.superclass "PedigreePeelingModel" "java/lang/Object") ∈ lw_all := lw_g (lw_at lw_m1 200 rfl) rfl
theorem q231 : (Jvm.Cond.instanceMethod ({ cls := "PedigreePeelingModel", name := "founder", desc := "()I" } : Jvm.MethodName)) ∈ lw_all := lw_g (lw_at lw_m1 202 rfl) rfl
theorem q232 : (Jvm.Cond.selects "PedigreePeelingModel" ({ cls := "PedigreePeelingModel", name := "founder", desc := "()I" } : Jvm.MethodName) ({ cls := "PedigreePeelingModel", name := "founder", desc := "()I" } : Jvm.MethodName)) ∈ lw_all := lw_g (lw_at lw_m1 203 rfl) rfl
theorem q233 : (Jvm.Cond.code ({ cls := "PedigreePeelingModel", name := "founder", desc := "()I" } : Jvm.MethodName) prog_3_method_5_code (1 : Nat) (Option.some Jvm.ClassFile.FieldType.int)) ∈ lw_all := lw_g (lw_at lw_m1 204 rfl) rfl
theorem q234 : (Jvm.Cond.methodLink "PedigreePeelingModel" (26 : Nat) ({ cls := "PedigreePeelingModel", name := "add", desc := "(II)I" } : Jvm.MethodName)) ∈ lw_all := lw_g (lw_at lw_m1 205 rfl) rfl
theorem q235 : (Jvm.Cond.privateMethod ({ cls := "PedigreePeelingModel", name := "add", desc := "(II)I" } : Jvm.MethodName)) ∈ lw_tbl := lw_at lw_m1 206 rfl
theorem q236 : (Jvm.Cond.instanceMethod ({ cls := "PedigreePeelingModel", name := "add", desc := "(II)I" } : Jvm.MethodName)) ∈ lw_all := lw_g (lw_at lw_m1 207 rfl) rfl
theorem q237 : (Jvm.Cond.code ({ cls := "PedigreePeelingModel", name := "add", desc := "(II)I" } : Jvm.MethodName) prog_3_method_4_code (4 : Nat) (Option.some Jvm.ClassFile.FieldType.int)) ∈ lw_all := lw_g (lw_at lw_m1 208 rfl) rfl
theorem q239 : (Jvm.Cond.instanceMethod ({ cls := "PedigreePeelingModel", name := "child", desc := "(II)I" } : Jvm.MethodName)) ∈ lw_all := lw_g (lw_at lw_m1 210 rfl) rfl
theorem q240 : (Jvm.Cond.selects "PedigreePeelingModel" ({ cls := "PedigreePeelingModel", name := "child", desc := "(II)I" } : Jvm.MethodName) ({ cls := "PedigreePeelingModel", name := "child", desc := "(II)I" } : Jvm.MethodName)) ∈ lw_all := lw_g (lw_at lw_m1 211 rfl) rfl
theorem q241 : (Jvm.Cond.code ({ cls := "PedigreePeelingModel", name := "child", desc := "(II)I" } : Jvm.MethodName) prog_3_method_6_code (3 : Nat) (Option.some Jvm.ClassFile.FieldType.int)) ∈ lw_all := lw_g (lw_at lw_m1 212 rfl) rfl
theorem q242 : (Jvm.Cond.methodLink "PedigreePeelingModel" (30 : Nat) ({ cls := "PedigreePeelingModel", name := "isPerson", desc := "(I)Z" } : Jvm.MethodName)) ∈ lw_all := lw_g (lw_at lw_m1 213 rfl) rfl
theorem q243 : (Jvm.Cond.privateMethod ({ cls := "PedigreePeelingModel", name := "isPerson", desc := "(I)Z" } : Jvm.MethodName)) ∈ lw_tbl := lw_at lw_m1 214 rfl
theorem q244 : (Jvm.Cond.instanceMethod ({ cls := "PedigreePeelingModel", name := "isPerson", desc := "(I)Z" } : Jvm.MethodName)) ∈ lw_all := lw_g (lw_at lw_m1 215 rfl) rfl
theorem q245 : (Jvm.Cond.code ({ cls := "PedigreePeelingModel", name := "isPerson", desc := "(I)Z" } : Jvm.MethodName) prog_3_method_2_code (2 : Nat) (Option.some Jvm.ClassFile.FieldType.boolean)) ∈ lw_all := lw_g (lw_at lw_m1 216 rfl) rfl
theorem q247 : (Jvm.Cond.instanceMethod ({ cls := "PedigreePeelingModel", name := "remove", desc := "()I" } : Jvm.MethodName)) ∈ lw_all := lw_g (lw_at lw_m1 218 rfl) rfl
theorem q248 : (Jvm.Cond.selects "PedigreePeelingModel" ({ cls := "PedigreePeelingModel", name := "remove", desc := "()I" } : Jvm.MethodName) ({ cls := "PedigreePeelingModel", name := "remove", desc := "()I" } : Jvm.MethodName)) ∈ lw_all := lw_g (lw_at lw_m1 219 rfl) rfl
theorem q249 : (Jvm.Cond.code ({ cls := "PedigreePeelingModel", name := "remove", desc := "()I" } : Jvm.MethodName) prog_3_method_7_code (1 : Nat) (Option.some Jvm.ClassFile.FieldType.int)) ∈ lw_all := lw_g (lw_at lw_m1 220 rfl) rfl
theorem q251 : (Jvm.Cond.instanceMethod ({ cls := "PedigreePeelingModel", name := "persons", desc := "()I" } : Jvm.MethodName)) ∈ lw_all := lw_g (lw_at lw_m1 222 rfl) rfl
theorem q252 : (Jvm.Cond.selects "PedigreePeelingModel" ({ cls := "PedigreePeelingModel", name := "persons", desc := "()I" } : Jvm.MethodName) ({ cls := "PedigreePeelingModel", name := "persons", desc := "()I" } : Jvm.MethodName)) ∈ lw_all := lw_g (lw_at lw_m1 223 rfl) rfl
theorem q253 : (Jvm.Cond.code ({ cls := "PedigreePeelingModel", name := "persons", desc := "()I" } : Jvm.MethodName) prog_3_method_8_code (1 : Nat) (Option.some Jvm.ClassFile.FieldType.int)) ∈ lw_all := lw_g (lw_at lw_m1 224 rfl) rfl
theorem q255 : (Jvm.Cond.instanceMethod ({ cls := "PedigreePeelingModel", name := "frequency", desc := "(I)I" } : Jvm.MethodName)) ∈ lw_all := lw_g (lw_at lw_m1 226 rfl) rfl
theorem q256 : (Jvm.Cond.selects "PedigreePeelingModel" ({ cls := "PedigreePeelingModel", name := "frequency", desc := "(I)I" } : Jvm.MethodName) ({ cls := "PedigreePeelingModel", name := "frequency", desc := "(I)I" } : Jvm.MethodName)) ∈ lw_all := lw_g (lw_at lw_m1 227 rfl) rfl
theorem q257 : (Jvm.Cond.code ({ cls := "PedigreePeelingModel", name := "frequency", desc := "(I)I" } : Jvm.MethodName) prog_3_method_9_code (3 : Nat) (Option.some Jvm.ClassFile.FieldType.int)) ∈ lw_all := lw_g (lw_at lw_m1 228 rfl) rfl
theorem q259 : (Jvm.Cond.instanceMethod ({ cls := "PedigreePeelingModel", name := "see", desc := "(III)I" } : Jvm.MethodName)) ∈ lw_all := lw_g (lw_at lw_m1 230 rfl) rfl
theorem q260 : (Jvm.Cond.selects "PedigreePeelingModel" ({ cls := "PedigreePeelingModel", name := "see", desc := "(III)I" } : Jvm.MethodName) ({ cls := "PedigreePeelingModel", name := "see", desc := "(III)I" } : Jvm.MethodName)) ∈ lw_all := lw_g (lw_at lw_m1 231 rfl) rfl
theorem q261 : (Jvm.Cond.code ({ cls := "PedigreePeelingModel", name := "see", desc := "(III)I" } : Jvm.MethodName) prog_3_method_10_code (5 : Nat) (Option.some Jvm.ClassFile.FieldType.int)) ∈ lw_all := lw_g (lw_at lw_m1 232 rfl) rfl
theorem q262 : (Jvm.Cond.methodLink "PedigreePeelingModel" (34 : Nat) ({ cls := "PedigreePeelingModel", name := "isGenotype", desc := "(I)Z" } : Jvm.MethodName)) ∈ lw_all := lw_g (lw_at lw_m1 233 rfl) rfl
theorem q263 : (Jvm.Cond.privateMethod ({ cls := "PedigreePeelingModel", name := "isGenotype", desc := "(I)Z" } : Jvm.MethodName)) ∈ lw_tbl := lw_at lw_m1 234 rfl
theorem q264 : (Jvm.Cond.instanceMethod ({ cls := "PedigreePeelingModel", name := "isGenotype", desc := "(I)Z" } : Jvm.MethodName)) ∈ lw_all := lw_g (lw_at lw_m1 235 rfl) rfl
theorem q265 : (Jvm.Cond.code ({ cls := "PedigreePeelingModel", name := "isGenotype", desc := "(I)Z" } : Jvm.MethodName) prog_3_method_3_code (2 : Nat) (Option.some Jvm.ClassFile.FieldType.boolean)) ∈ lw_all := lw_g (lw_at lw_m1 236 rfl) rfl
theorem q267 : (Jvm.Cond.instanceMethod ({ cls := "PedigreePeelingModel", name := "seen", desc := "(II)I" } : Jvm.MethodName)) ∈ lw_all := lw_g (lw_at lw_m1 238 rfl) rfl
theorem q268 : (Jvm.Cond.selects "PedigreePeelingModel" ({ cls := "PedigreePeelingModel", name := "seen", desc := "(II)I" } : Jvm.MethodName) ({ cls := "PedigreePeelingModel", name := "seen", desc := "(II)I" } : Jvm.MethodName)) ∈ lw_all := lw_g (lw_at lw_m1 239 rfl) rfl
theorem q269 : (Jvm.Cond.code ({ cls := "PedigreePeelingModel", name := "seen", desc := "(II)I" } : Jvm.MethodName) prog_3_method_11_code (3 : Nat) (Option.some Jvm.ClassFile.FieldType.int)) ∈ lw_all := lw_g (lw_at lw_m2 0 rfl) rfl
theorem q271 : (Jvm.Cond.instanceMethod ({ cls := "PedigreePeelingModel", name := "likelihood", desc := "()J" } : Jvm.MethodName)) ∈ lw_all := lw_g (lw_at lw_m2 2 rfl) rfl
theorem q272 : (Jvm.Cond.selects "PedigreePeelingModel" ({ cls := "PedigreePeelingModel", name := "likelihood", desc := "()J" } : Jvm.MethodName) ({ cls := "PedigreePeelingModel", name := "likelihood", desc := "()J" } : Jvm.MethodName)) ∈ lw_all := lw_g (lw_at lw_m2 3 rfl) rfl
theorem q273 : (Jvm.Cond.code ({ cls := "PedigreePeelingModel", name := "likelihood", desc := "()J" } : Jvm.MethodName) prog_3_method_18_code (5 : Nat) (Option.some Jvm.ClassFile.FieldType.long)) ∈ lw_all := lw_g (lw_at lw_m2 4 rfl) rfl
theorem q274 : (Jvm.Cond.methodLink "PedigreePeelingModel" (37 : Nat) ({ cls := "PedigreePeelingModel", name := "power", desc := "(I)I" } : Jvm.MethodName)) ∈ lw_all := lw_g (lw_at lw_m2 5 rfl) rfl
theorem q275 : (Jvm.Cond.privateMethod ({ cls := "PedigreePeelingModel", name := "power", desc := "(I)I" } : Jvm.MethodName)) ∈ lw_tbl := lw_at lw_m2 6 rfl
theorem q276 : (Jvm.Cond.instanceMethod ({ cls := "PedigreePeelingModel", name := "power", desc := "(I)I" } : Jvm.MethodName)) ∈ lw_all := lw_g (lw_at lw_m2 7 rfl) rfl
theorem q277 : (Jvm.Cond.code ({ cls := "PedigreePeelingModel", name := "power", desc := "(I)I" } : Jvm.MethodName) prog_3_method_12_code (4 : Nat) (Option.some Jvm.ClassFile.FieldType.int)) ∈ lw_all := lw_g (lw_at lw_m2 8 rfl) rfl
theorem q278 : (Jvm.Cond.methodLink "PedigreePeelingModel" (54 : Nat) ({ cls := "PedigreePeelingModel", name := "weight", desc := "(I)J" } : Jvm.MethodName)) ∈ lw_all := lw_g (lw_at lw_m2 9 rfl) rfl
theorem q279 : (Jvm.Cond.privateMethod ({ cls := "PedigreePeelingModel", name := "weight", desc := "(I)J" } : Jvm.MethodName)) ∈ lw_tbl := lw_at lw_m2 10 rfl
theorem q280 : (Jvm.Cond.instanceMethod ({ cls := "PedigreePeelingModel", name := "weight", desc := "(I)J" } : Jvm.MethodName)) ∈ lw_all := lw_g (lw_at lw_m2 11 rfl) rfl
theorem q281 : (Jvm.Cond.code ({ cls := "PedigreePeelingModel", name := "weight", desc := "(I)J" } : Jvm.MethodName) prog_3_method_17_code (5 : Nat) (Option.some Jvm.ClassFile.FieldType.long)) ∈ lw_all := lw_g (lw_at lw_m2 12 rfl) rfl
theorem q282 : (Jvm.Cond.methodLink "PedigreePeelingModel" (51 : Nat) ({ cls := "PedigreePeelingModel", name := "factor", desc := "(II)I" } : Jvm.MethodName)) ∈ lw_all := lw_g (lw_at lw_m2 13 rfl) rfl
theorem q283 : (Jvm.Cond.privateMethod ({ cls := "PedigreePeelingModel", name := "factor", desc := "(II)I" } : Jvm.MethodName)) ∈ lw_tbl := lw_at lw_m2 14 rfl
theorem q284 : (Jvm.Cond.instanceMethod ({ cls := "PedigreePeelingModel", name := "factor", desc := "(II)I" } : Jvm.MethodName)) ∈ lw_all := lw_g (lw_at lw_m2 15 rfl) rfl
theorem q285 : (Jvm.Cond.code ({ cls := "PedigreePeelingModel", name := "factor", desc := "(II)I" } : Jvm.MethodName) prog_3_method_16_code (7 : Nat) (Option.some Jvm.ClassFile.FieldType.int)) ∈ lw_all := lw_g (lw_at lw_m2 16 rfl) rfl
theorem q286 : (Jvm.Cond.methodLink "PedigreePeelingModel" (41 : Nat) ({ cls := "PedigreePeelingModel", name := "genotype", desc := "(II)I" } : Jvm.MethodName)) ∈ lw_all := lw_g (lw_at lw_m2 17 rfl) rfl
theorem q287 : (Jvm.Cond.privateMethod ({ cls := "PedigreePeelingModel", name := "genotype", desc := "(II)I" } : Jvm.MethodName)) ∈ lw_tbl := lw_at lw_m2 18 rfl
theorem q288 : (Jvm.Cond.instanceMethod ({ cls := "PedigreePeelingModel", name := "genotype", desc := "(II)I" } : Jvm.MethodName)) ∈ lw_all := lw_g (lw_at lw_m2 19 rfl) rfl
theorem q289 : (Jvm.Cond.code ({ cls := "PedigreePeelingModel", name := "genotype", desc := "(II)I" } : Jvm.MethodName) prog_3_method_13_code (4 : Nat) (Option.some Jvm.ClassFile.FieldType.int)) ∈ lw_all := lw_g (lw_at lw_m2 20 rfl) rfl
theorem q290 : (Jvm.Cond.methodLink "PedigreePeelingModel" (44 : Nat) ({ cls := "PedigreePeelingModel", name := "founded", desc := "(I)I" } : Jvm.MethodName)) ∈ lw_all := lw_g (lw_at lw_m2 21 rfl) rfl
theorem q291 : (Jvm.Cond.privateMethod ({ cls := "PedigreePeelingModel", name := "founded", desc := "(I)I" } : Jvm.MethodName)) ∈ lw_tbl := lw_at lw_m2 22 rfl
theorem q292 : (Jvm.Cond.instanceMethod ({ cls := "PedigreePeelingModel", name := "founded", desc := "(I)I" } : Jvm.MethodName)) ∈ lw_all := lw_g (lw_at lw_m2 23 rfl) rfl
theorem q293 : (Jvm.Cond.code ({ cls := "PedigreePeelingModel", name := "founded", desc := "(I)I" } : Jvm.MethodName) prog_3_method_15_code (2 : Nat) (Option.some Jvm.ClassFile.FieldType.int)) ∈ lw_all := lw_g (lw_at lw_m2 24 rfl) rfl
theorem q294 : (Jvm.Cond.methodLink "PedigreePeelingModel" (47 : Nat) ({ cls := "PedigreePeelingModel", name := "inherited", desc := "(III)I" } : Jvm.MethodName)) ∈ lw_all := lw_g (lw_at lw_m2 25 rfl) rfl
theorem q295 : (Jvm.Cond.privateMethod ({ cls := "PedigreePeelingModel", name := "inherited", desc := "(III)I" } : Jvm.MethodName)) ∈ lw_tbl := lw_at lw_m2 26 rfl
theorem q296 : (Jvm.Cond.instanceMethod ({ cls := "PedigreePeelingModel", name := "inherited", desc := "(III)I" } : Jvm.MethodName)) ∈ lw_all := lw_g (lw_at lw_m2 27 rfl) rfl
theorem q297 : (Jvm.Cond.code ({ cls := "PedigreePeelingModel", name := "inherited", desc := "(III)I" } : Jvm.MethodName) prog_3_method_14_code (4 : Nat) (Option.some Jvm.ClassFile.FieldType.int)) ∈ lw_all := lw_g (lw_at lw_m2 28 rfl) rfl
theorem q299 : (Jvm.Cond.instanceMethod ({ cls := "PedigreePeelingModel", name := "share", desc := "(II)J" } : Jvm.MethodName)) ∈ lw_all := lw_g (lw_at lw_m2 30 rfl) rfl
theorem q300 : (Jvm.Cond.selects "PedigreePeelingModel" ({ cls := "PedigreePeelingModel", name := "share", desc := "(II)J" } : Jvm.MethodName) ({ cls := "PedigreePeelingModel", name := "share", desc := "(II)J" } : Jvm.MethodName)) ∈ lw_all := lw_g (lw_at lw_m2 31 rfl) rfl
theorem q301 : (Jvm.Cond.code ({ cls := "PedigreePeelingModel", name := "share", desc := "(II)J" } : Jvm.MethodName) prog_3_method_19_code (3 : Nat) (Option.some Jvm.ClassFile.FieldType.long)) ∈ lw_all := lw_g (lw_at lw_m2 32 rfl) rfl
theorem q302 : (Jvm.Cond.methodLink "PedigreePeelingModel" (58 : Nat) ({ cls := "PedigreePeelingModel", name := "shareOfTwo", desc := "(IIII)J" } : Jvm.MethodName)) ∈ lw_all := lw_g (lw_at lw_m2 33 rfl) rfl
theorem q303 : (Jvm.Cond.instanceMethod ({ cls := "PedigreePeelingModel", name := "shareOfTwo", desc := "(IIII)J" } : Jvm.MethodName)) ∈ lw_all := lw_g (lw_at lw_m2 34 rfl) rfl
theorem q304 : (Jvm.Cond.selects "PedigreePeelingModel" ({ cls := "PedigreePeelingModel", name := "shareOfTwo", desc := "(IIII)J" } : Jvm.MethodName) ({ cls := "PedigreePeelingModel", name := "shareOfTwo", desc := "(IIII)J" } : Jvm.MethodName)) ∈ lw_all := lw_g (lw_at lw_m2 35 rfl) rfl
theorem q305 : (Jvm.Cond.code ({ cls := "PedigreePeelingModel", name := "shareOfTwo", desc := "(IIII)J" } : Jvm.MethodName) prog_3_method_20_code (9 : Nat) (Option.some Jvm.ClassFile.FieldType.long)) ∈ lw_all := lw_g (lw_at lw_m2 36 rfl) rfl
theorem q308 : (Jvm.Cond.instanceMethod ({ cls := "PedigreePeelingModel", name := "copies", desc := "(I)J" } : Jvm.MethodName)) ∈ lw_all := lw_g (lw_at lw_m2 39 rfl) rfl
theorem q309 : (Jvm.Cond.selects "PedigreePeelingModel" ({ cls := "PedigreePeelingModel", name := "copies", desc := "(I)J" } : Jvm.MethodName) ({ cls := "PedigreePeelingModel", name := "copies", desc := "(I)J" } : Jvm.MethodName)) ∈ lw_all := lw_g (lw_at lw_m2 40 rfl) rfl
theorem q310 : (Jvm.Cond.code ({ cls := "PedigreePeelingModel", name := "copies", desc := "(I)J" } : Jvm.MethodName) prog_3_method_21_code (6 : Nat) (Option.some Jvm.ClassFile.FieldType.long)) ∈ lw_all := lw_g (lw_at lw_m2 41 rfl) rfl
theorem q312 : (Jvm.Cond.instanceMethod ({ cls := "PedigreePeelingModel", name := "possible", desc := "(I)I" } : Jvm.MethodName)) ∈ lw_all := lw_g (lw_at lw_m2 43 rfl) rfl
theorem q313 : (Jvm.Cond.selects "PedigreePeelingModel" ({ cls := "PedigreePeelingModel", name := "possible", desc := "(I)I" } : Jvm.MethodName) ({ cls := "PedigreePeelingModel", name := "possible", desc := "(I)I" } : Jvm.MethodName)) ∈ lw_all := lw_g (lw_at lw_m2 44 rfl) rfl
theorem q314 : (Jvm.Cond.code ({ cls := "PedigreePeelingModel", name := "possible", desc := "(I)I" } : Jvm.MethodName) prog_3_method_23_code (5 : Nat) (Option.some Jvm.ClassFile.FieldType.int)) ∈ lw_all := lw_g (lw_at lw_m2 45 rfl) rfl
theorem q315 : (Jvm.Cond.methodLink "PedigreePeelingModel" (62 : Nat) ({ cls := "PedigreePeelingModel", name := "isPossible", desc := "(I)Z" } : Jvm.MethodName)) ∈ lw_all := lw_g (lw_at lw_m2 46 rfl) rfl
theorem q316 : (Jvm.Cond.privateMethod ({ cls := "PedigreePeelingModel", name := "isPossible", desc := "(I)Z" } : Jvm.MethodName)) ∈ lw_tbl := lw_at lw_m2 47 rfl
theorem q317 : (Jvm.Cond.instanceMethod ({ cls := "PedigreePeelingModel", name := "isPossible", desc := "(I)Z" } : Jvm.MethodName)) ∈ lw_all := lw_g (lw_at lw_m2 48 rfl) rfl
theorem q318 : (Jvm.Cond.code ({ cls := "PedigreePeelingModel", name := "isPossible", desc := "(I)Z" } : Jvm.MethodName) prog_3_method_22_code (3 : Nat) (Option.some Jvm.ClassFile.FieldType.boolean)) ∈ lw_all := lw_g (lw_at lw_m2 49 rfl) rfl
theorem q320 : (Jvm.Cond.instanceMethod ({ cls := "PedigreePeelingModel", name := "before", desc := "(II)Z" } : Jvm.MethodName)) ∈ lw_all := lw_g (lw_at lw_m2 51 rfl) rfl
theorem q321 : (Jvm.Cond.selects "PedigreePeelingModel" ({ cls := "PedigreePeelingModel", name := "before", desc := "(II)Z" } : Jvm.MethodName) ({ cls := "PedigreePeelingModel", name := "before", desc := "(II)Z" } : Jvm.MethodName)) ∈ lw_all := lw_g (lw_at lw_m2 52 rfl) rfl
theorem q322 : (Jvm.Cond.code ({ cls := "PedigreePeelingModel", name := "before", desc := "(II)Z" } : Jvm.MethodName) prog_3_method_25_code (3 : Nat) (Option.some Jvm.ClassFile.FieldType.boolean)) ∈ lw_all := lw_g (lw_at lw_m2 53 rfl) rfl
theorem q323 : (Jvm.Cond.methodLink "PedigreePeelingModel" (65 : Nat) ({ cls := "PedigreePeelingModel", name := "forefathers", desc := "(I)I" } : Jvm.MethodName)) ∈ lw_all := lw_g (lw_at lw_m2 54 rfl) rfl
theorem q324 : (Jvm.Cond.privateMethod ({ cls := "PedigreePeelingModel", name := "forefathers", desc := "(I)I" } : Jvm.MethodName)) ∈ lw_tbl := lw_at lw_m2 55 rfl
theorem q325 : (Jvm.Cond.instanceMethod ({ cls := "PedigreePeelingModel", name := "forefathers", desc := "(I)I" } : Jvm.MethodName)) ∈ lw_all := lw_g (lw_at lw_m2 56 rfl) rfl
theorem q326 : (Jvm.Cond.code ({ cls := "PedigreePeelingModel", name := "forefathers", desc := "(I)I" } : Jvm.MethodName) prog_3_method_24_code (4 : Nat) (Option.some Jvm.ClassFile.FieldType.int)) ∈ lw_all := lw_g (lw_at lw_m2 57 rfl) rfl
theorem in_X1 : ∀ w ∈ wsX10, w ∈ lw_all := lw_in wsX10 [219, 221, 223, 225, 227] (by decide +kernel) (by decide +kernel)
end
section
set_option maxRecDepth 100000
theorem dX0_init_0 : decode cX0_init 0 = .ok (.aload_n 0, 1) := by decide +kernel
theorem dX0_init_1 : decode cX0_init 1 = .ok (.invokespecial 1, 3) := by decide +kernel
theorem dX0_init_4 : decode cX0_init 4 = .ok (.aload_n 0, 1) := by decide +kernel
theorem dX0_init_5 : decode cX0_init 5 = .ok (.bipush 7, 2) := by decide +kernel
theorem dX0_init_7 : decode cX0_init 7 = .ok (.newarray .int, 2) := by decide +kernel
theorem dX0_init_9 : decode cX0_init 9 = .ok (.putfield 7, 3) := by decide +kernel
theorem dX0_init_12 : decode cX0_init 12 = .ok (.aload_n 0, 1) := by decide +kernel
theorem dX0_init_13 : decode cX0_init 13 = .ok (.bipush 7, 2) := by decide +kernel
theorem dX0_init_15 : decode cX0_init 15 = .ok (.newarray .int, 2) := by decide +kernel
theorem dX0_init_17 : decode cX0_init 17 = .ok (.putfield 13, 3) := by decide +kernel
theorem dX0_init_20 : decode cX0_init 20 = .ok (.aload_n 0, 1) := by decide +kernel
theorem dX0_init_21 : decode cX0_init 21 = .ok (.bipush 21, 2) := by decide +kernel
theorem dX0_init_23 : decode cX0_init 23 = .ok (.newarray .int, 2) := by decide +kernel
theorem dX0_init_25 : decode cX0_init 25 = .ok (.putfield 16, 3) := by decide +kernel
theorem dX0_init_28 : decode cX0_init 28 = .ok (.aload_n 0, 1) := by decide +kernel
theorem dX0_init_29 : decode cX0_init 29 = .ok (.bipush 7, 2) := by decide +kernel
theorem dX0_init_31 : decode cX0_init 31 = .ok (.newarray .int, 2) := by decide +kernel
theorem dX0_init_33 : decode cX0_init 33 = .ok (.putfield 19, 3) := by decide +kernel
theorem dX0_init_36 : decode cX0_init 36 = .ok (.aload_n 0, 1) := by decide +kernel
theorem dX0_init_37 : decode cX0_init 37 = .ok (.bipush 16, 2) := by decide +kernel
theorem dX0_init_39 : decode cX0_init 39 = .ok (.newarray .int, 2) := by decide +kernel
theorem dX0_init_41 : decode cX0_init 41 = .ok (.putfield 22, 3) := by decide +kernel
theorem dX0_init_44 : decode cX0_init 44 = .ok (.aload_n 0, 1) := by decide +kernel
theorem dX0_init_45 : decode cX0_init 45 = .ok (.bipush 16, 2) := by decide +kernel
theorem dX0_init_47 : decode cX0_init 47 = .ok (.newarray .int, 2) := by decide +kernel
theorem dX0_init_49 : decode cX0_init 49 = .ok (.putfield 25, 3) := by decide +kernel
theorem dX0_init_52 : decode cX0_init 52 = .ok (.aload_n 0, 1) := by decide +kernel
theorem dX0_init_53 : decode cX0_init 53 = .ok (.sipush 1320, 3) := by decide +kernel
theorem dX0_init_56 : decode cX0_init 56 = .ok (.newarray .long, 2) := by decide +kernel
theorem dX0_init_58 : decode cX0_init 58 = .ok (.putfield 28, 3) := by decide +kernel
theorem dX0_init_61 : decode cX0_init 61 = .ok (.aload_n 0, 1) := by decide +kernel
theorem dX0_init_62 : decode cX0_init 62 = .ok (.bipush 7, 2) := by decide +kernel
theorem dX0_init_64 : decode cX0_init 64 = .ok (.newarray .int, 2) := by decide +kernel
theorem dX0_init_66 : decode cX0_init 66 = .ok (.putfield 32, 3) := by decide +kernel
theorem dX0_init_69 : decode cX0_init 69 = .ok (.aload_n 0, 1) := by decide +kernel
theorem dX0_init_70 : decode cX0_init 70 = .ok (.bipush 8, 2) := by decide +kernel
theorem dX0_init_72 : decode cX0_init 72 = .ok (.putfield 35, 3) := by decide +kernel
theorem dX0_init_75 : decode cX0_init 75 = .ok (.return_, 1) := by decide +kernel
theorem dX0_founder_0 : decode cX0_founder 0 = .ok (.aload_n 0, 1) := by decide +kernel
theorem dX0_founder_1 : decode cX0_founder 1 = .ok (.iconst (-1), 1) := by decide +kernel
theorem dX0_founder_2 : decode cX0_founder 2 = .ok (.iconst (-1), 1) := by decide +kernel
theorem dX0_founder_3 : decode cX0_founder 3 = .ok (.invokevirtual 42, 3) := by decide +kernel
theorem dX0_founder_6 : decode cX0_founder 6 = .ok (.ireturn, 1) := by decide +kernel
theorem dX0_add_0 : decode cX0_add 0 = .ok (.aload_n 0, 1) := by decide +kernel
theorem dX0_add_1 : decode cX0_add 1 = .ok (.getfield 39, 3) := by decide +kernel
theorem dX0_add_4 : decode cX0_add 4 = .ok (.bipush 7, 2) := by decide +kernel
theorem dX0_add_6 : decode cX0_add 6 = .ok (.if_icmp .ne 6, 3) := by decide +kernel
theorem dX0_add_9 : decode cX0_add 9 = .ok (.bipush (-2), 2) := by decide +kernel
theorem dX0_add_11 : decode cX0_add 11 = .ok (.ireturn, 1) := by decide +kernel
theorem dX0_add_12 : decode cX0_add 12 = .ok (.aload_n 0, 1) := by decide +kernel
theorem dX0_add_13 : decode cX0_add 13 = .ok (.getfield 7, 3) := by decide +kernel
theorem dX0_add_16 : decode cX0_add 16 = .ok (.aload_n 0, 1) := by decide +kernel
theorem dX0_add_17 : decode cX0_add 17 = .ok (.getfield 39, 3) := by decide +kernel
theorem dX0_add_20 : decode cX0_add 20 = .ok (.iload_n 1, 1) := by decide +kernel
theorem dX0_add_21 : decode cX0_add 21 = .ok (.iastore, 1) := by decide +kernel
theorem dX0_add_22 : decode cX0_add 22 = .ok (.aload_n 0, 1) := by decide +kernel
theorem dX0_add_23 : decode cX0_add 23 = .ok (.getfield 13, 3) := by decide +kernel
theorem dX0_add_26 : decode cX0_add 26 = .ok (.aload_n 0, 1) := by decide +kernel
theorem dX0_add_27 : decode cX0_add 27 = .ok (.getfield 39, 3) := by decide +kernel
theorem dX0_add_30 : decode cX0_add 30 = .ok (.iload_n 2, 1) := by decide +kernel
theorem dX0_add_31 : decode cX0_add 31 = .ok (.iastore, 1) := by decide +kernel
theorem dX0_add_32 : decode cX0_add 32 = .ok (.iconst 0, 1) := by decide +kernel
theorem dX0_add_33 : decode cX0_add 33 = .ok (.istore_n 3, 1) := by decide +kernel
theorem dX0_add_34 : decode cX0_add 34 = .ok (.iload_n 3, 1) := by decide +kernel
theorem dX0_add_35 : decode cX0_add 35 = .ok (.iconst 3, 1) := by decide +kernel
theorem dX0_add_36 : decode cX0_add 36 = .ok (.if_icmp .ge 23, 3) := by decide +kernel
theorem dX0_add_39 : decode cX0_add 39 = .ok (.aload_n 0, 1) := by decide +kernel
theorem dX0_add_40 : decode cX0_add 40 = .ok (.getfield 16, 3) := by decide +kernel
theorem dX0_add_43 : decode cX0_add 43 = .ok (.aload_n 0, 1) := by decide +kernel
theorem dX0_add_44 : decode cX0_add 44 = .ok (.getfield 39, 3) := by decide +kernel
theorem dX0_add_47 : decode cX0_add 47 = .ok (.iconst 3, 1) := by decide +kernel
theorem dX0_add_48 : decode cX0_add 48 = .ok (.imul, 1) := by decide +kernel
theorem dX0_add_49 : decode cX0_add 49 = .ok (.iload_n 3, 1) := by decide +kernel
theorem dX0_add_50 : decode cX0_add 50 = .ok (.iadd, 1) := by decide +kernel
theorem dX0_add_51 : decode cX0_add 51 = .ok (.iconst 1, 1) := by decide +kernel
theorem dX0_add_52 : decode cX0_add 52 = .ok (.iastore, 1) := by decide +kernel
theorem dX0_add_53 : decode cX0_add 53 = .ok (.iinc 3 1, 3) := by decide +kernel
theorem dX0_add_56 : decode cX0_add 56 = .ok (.goto (-22), 3) := by decide +kernel
theorem dX0_add_59 : decode cX0_add 59 = .ok (.aload_n 0, 1) := by decide +kernel
theorem dX0_add_60 : decode cX0_add 60 = .ok (.dup, 1) := by decide +kernel
theorem dX0_add_61 : decode cX0_add 61 = .ok (.getfield 39, 3) := by decide +kernel
theorem dX0_add_64 : decode cX0_add 64 = .ok (.iconst 1, 1) := by decide +kernel
theorem dX0_add_65 : decode cX0_add 65 = .ok (.iadd, 1) := by decide +kernel
theorem dX0_add_66 : decode cX0_add 66 = .ok (.putfield 39, 3) := by decide +kernel
theorem dX0_add_69 : decode cX0_add 69 = .ok (.aload_n 0, 1) := by decide +kernel
theorem dX0_add_70 : decode cX0_add 70 = .ok (.getfield 39, 3) := by decide +kernel
theorem dX0_add_73 : decode cX0_add 73 = .ok (.iconst 1, 1) := by decide +kernel
theorem dX0_add_74 : decode cX0_add 74 = .ok (.isub, 1) := by decide +kernel
theorem dX0_add_75 : decode cX0_add 75 = .ok (.ireturn, 1) := by decide +kernel
theorem dX0_child_0 : decode cX0_child 0 = .ok (.aload_n 0, 1) := by decide +kernel
theorem dX0_child_1 : decode cX0_child 1 = .ok (.iload_n 1, 1) := by decide +kernel
theorem dX0_child_2 : decode cX0_child 2 = .ok (.invokevirtual 46, 3) := by decide +kernel
theorem dX0_child_5 : decode cX0_child 5 = .ok (.ifCond .ne 16, 3) := by decide +kernel
theorem dX0_child_8 : decode cX0_child 8 = .ok (.aload_n 0, 1) := by decide +kernel
theorem dX0_child_9 : decode cX0_child 9 = .ok (.iload_n 2, 1) := by decide +kernel
theorem dX0_child_10 : decode cX0_child 10 = .ok (.invokevirtual 46, 3) := by decide +kernel
theorem dX0_child_13 : decode cX0_child 13 = .ok (.ifCond .ne 8, 3) := by decide +kernel
theorem dX0_child_16 : decode cX0_child 16 = .ok (.iload_n 1, 1) := by decide +kernel
theorem dX0_child_17 : decode cX0_child 17 = .ok (.iload_n 2, 1) := by decide +kernel
theorem dX0_child_18 : decode cX0_child 18 = .ok (.if_icmp .ne 5, 3) := by decide +kernel
theorem dX0_child_21 : decode cX0_child 21 = .ok (.iconst (-1), 1) := by decide +kernel
theorem dX0_child_22 : decode cX0_child 22 = .ok (.ireturn, 1) := by decide +kernel
theorem dX0_child_23 : decode cX0_child 23 = .ok (.aload_n 0, 1) := by decide +kernel
theorem dX0_child_24 : decode cX0_child 24 = .ok (.iload_n 1, 1) := by decide +kernel
theorem dX0_child_25 : decode cX0_child 25 = .ok (.iload_n 2, 1) := by decide +kernel
theorem dX0_child_26 : decode cX0_child 26 = .ok (.invokevirtual 42, 3) := by decide +kernel
theorem dX0_child_29 : decode cX0_child 29 = .ok (.ireturn, 1) := by decide +kernel
theorem dX0_bad_0 : decode cX0_bad 0 = .ok (.iload_n 1, 1) := by decide +kernel
theorem dX0_bad_1 : decode cX0_bad 1 = .ok (.ifCond .lt 11, 3) := by decide +kernel
theorem dX0_bad_4 : decode cX0_bad 4 = .ok (.iload_n 1, 1) := by decide +kernel
theorem dX0_bad_5 : decode cX0_bad 5 = .ok (.aload_n 0, 1) := by decide +kernel
theorem dX0_bad_6 : decode cX0_bad 6 = .ok (.getfield 39, 3) := by decide +kernel
theorem dX0_bad_9 : decode cX0_bad 9 = .ok (.if_icmp .lt 7, 3) := by decide +kernel
theorem dX0_bad_12 : decode cX0_bad 12 = .ok (.iconst 1, 1) := by decide +kernel
theorem dX0_bad_13 : decode cX0_bad 13 = .ok (.goto 4, 3) := by decide +kernel
theorem dX0_bad_16 : decode cX0_bad 16 = .ok (.iconst 0, 1) := by decide +kernel
theorem dX0_bad_17 : decode cX0_bad 17 = .ok (.ireturn, 1) := by decide +kernel
theorem dX0_remove_0 : decode cX0_remove 0 = .ok (.aload_n 0, 1) := by decide +kernel
theorem dX0_remove_1 : decode cX0_remove 1 = .ok (.getfield 39, 3) := by decide +kernel
theorem dX0_remove_4 : decode cX0_remove 4 = .ok (.ifCond .ne 5, 3) := by decide +kernel
theorem dX0_remove_7 : decode cX0_remove 7 = .ok (.iconst (-1), 1) := by decide +kernel
theorem dX0_remove_8 : decode cX0_remove 8 = .ok (.ireturn, 1) := by decide +kernel
theorem dX0_remove_9 : decode cX0_remove 9 = .ok (.aload_n 0, 1) := by decide +kernel
theorem dX0_remove_10 : decode cX0_remove 10 = .ok (.dup, 1) := by decide +kernel
theorem dX0_remove_11 : decode cX0_remove 11 = .ok (.getfield 39, 3) := by decide +kernel
theorem dX0_remove_14 : decode cX0_remove 14 = .ok (.iconst 1, 1) := by decide +kernel
theorem dX0_remove_15 : decode cX0_remove 15 = .ok (.isub, 1) := by decide +kernel
theorem dX0_remove_16 : decode cX0_remove 16 = .ok (.putfield 39, 3) := by decide +kernel
theorem dX0_remove_19 : decode cX0_remove 19 = .ok (.aload_n 0, 1) := by decide +kernel
theorem dX0_remove_20 : decode cX0_remove 20 = .ok (.getfield 39, 3) := by decide +kernel
theorem dX0_remove_23 : decode cX0_remove 23 = .ok (.ireturn, 1) := by decide +kernel
theorem dX0_persons_0 : decode cX0_persons 0 = .ok (.aload_n 0, 1) := by decide +kernel
theorem dX0_persons_1 : decode cX0_persons 1 = .ok (.getfield 39, 3) := by decide +kernel
theorem dX0_persons_4 : decode cX0_persons 4 = .ok (.ireturn, 1) := by decide +kernel
theorem dX0_frequency_0 : decode cX0_frequency 0 = .ok (.iload_n 1, 1) := by decide +kernel
theorem dX0_frequency_1 : decode cX0_frequency 1 = .ok (.ifCond .lt 9, 3) := by decide +kernel
theorem dX0_frequency_4 : decode cX0_frequency 4 = .ok (.iload_n 1, 1) := by decide +kernel
theorem dX0_frequency_5 : decode cX0_frequency 5 = .ok (.bipush 16, 2) := by decide +kernel
theorem dX0_frequency_7 : decode cX0_frequency 7 = .ok (.if_icmp .le 5, 3) := by decide +kernel
theorem dX0_frequency_10 : decode cX0_frequency 10 = .ok (.iconst (-1), 1) := by decide +kernel
theorem dX0_frequency_11 : decode cX0_frequency 11 = .ok (.ireturn, 1) := by decide +kernel
theorem dX0_frequency_12 : decode cX0_frequency 12 = .ok (.aload_n 0, 1) := by decide +kernel
theorem dX0_frequency_13 : decode cX0_frequency 13 = .ok (.getfield 35, 3) := by decide +kernel
theorem dX0_frequency_16 : decode cX0_frequency 16 = .ok (.istore_n 2, 1) := by decide +kernel
theorem dX0_frequency_17 : decode cX0_frequency 17 = .ok (.aload_n 0, 1) := by decide +kernel
theorem dX0_frequency_18 : decode cX0_frequency 18 = .ok (.iload_n 1, 1) := by decide +kernel
theorem dX0_frequency_19 : decode cX0_frequency 19 = .ok (.putfield 35, 3) := by decide +kernel
theorem dX0_frequency_22 : decode cX0_frequency 22 = .ok (.iload_n 2, 1) := by decide +kernel
theorem dX0_frequency_23 : decode cX0_frequency 23 = .ok (.ireturn, 1) := by decide +kernel
theorem dX0_see_0 : decode cX0_see 0 = .ok (.aload_n 0, 1) := by decide +kernel
theorem dX0_see_1 : decode cX0_see 1 = .ok (.iload_n 1, 1) := by decide +kernel
theorem dX0_see_2 : decode cX0_see 2 = .ok (.invokevirtual 46, 3) := by decide +kernel
theorem dX0_see_5 : decode cX0_see 5 = .ok (.ifCond .ne 20, 3) := by decide +kernel
theorem dX0_see_8 : decode cX0_see 8 = .ok (.aload_n 0, 1) := by decide +kernel
theorem dX0_see_9 : decode cX0_see 9 = .ok (.iload_n 2, 1) := by decide +kernel
theorem dX0_see_10 : decode cX0_see 10 = .ok (.invokevirtual 50, 3) := by decide +kernel
theorem dX0_see_13 : decode cX0_see 13 = .ok (.ifCond .ne 12, 3) := by decide +kernel
theorem dX0_see_16 : decode cX0_see 16 = .ok (.iload_n 3, 1) := by decide +kernel
theorem dX0_see_17 : decode cX0_see 17 = .ok (.ifCond .lt 8, 3) := by decide +kernel
theorem dX0_see_20 : decode cX0_see 20 = .ok (.iload_n 3, 1) := by decide +kernel
theorem dX0_see_21 : decode cX0_see 21 = .ok (.iconst 5, 1) := by decide +kernel
theorem dX0_see_22 : decode cX0_see 22 = .ok (.if_icmp .le 5, 3) := by decide +kernel
theorem dX0_see_25 : decode cX0_see 25 = .ok (.iconst (-1), 1) := by decide +kernel
theorem dX0_see_26 : decode cX0_see 26 = .ok (.ireturn, 1) := by decide +kernel
theorem dX0_see_27 : decode cX0_see 27 = .ok (.aload_n 0, 1) := by decide +kernel
theorem dX0_see_28 : decode cX0_see 28 = .ok (.getfield 16, 3) := by decide +kernel
theorem dX0_see_31 : decode cX0_see 31 = .ok (.iload_n 1, 1) := by decide +kernel
theorem dX0_see_32 : decode cX0_see 32 = .ok (.iconst 3, 1) := by decide +kernel
theorem dX0_see_33 : decode cX0_see 33 = .ok (.imul, 1) := by decide +kernel
theorem dX0_see_34 : decode cX0_see 34 = .ok (.iload_n 2, 1) := by decide +kernel
theorem dX0_see_35 : decode cX0_see 35 = .ok (.iadd, 1) := by decide +kernel
theorem dX0_see_36 : decode cX0_see 36 = .ok (.iaload, 1) := by decide +kernel
theorem dX0_see_37 : decode cX0_see 37 = .ok (.istore 4, 2) := by decide +kernel
theorem dX0_see_39 : decode cX0_see 39 = .ok (.aload_n 0, 1) := by decide +kernel
theorem dX0_see_40 : decode cX0_see 40 = .ok (.getfield 16, 3) := by decide +kernel
theorem dX0_see_43 : decode cX0_see 43 = .ok (.iload_n 1, 1) := by decide +kernel
theorem dX0_see_44 : decode cX0_see 44 = .ok (.iconst 3, 1) := by decide +kernel
theorem dX0_see_45 : decode cX0_see 45 = .ok (.imul, 1) := by decide +kernel
theorem dX0_see_46 : decode cX0_see 46 = .ok (.iload_n 2, 1) := by decide +kernel
theorem dX0_see_47 : decode cX0_see 47 = .ok (.iadd, 1) := by decide +kernel
theorem dX0_see_48 : decode cX0_see 48 = .ok (.iload_n 3, 1) := by decide +kernel
theorem dX0_see_49 : decode cX0_see 49 = .ok (.iastore, 1) := by decide +kernel
theorem dX0_see_50 : decode cX0_see 50 = .ok (.iload 4, 2) := by decide +kernel
theorem dX0_see_52 : decode cX0_see 52 = .ok (.ireturn, 1) := by decide +kernel
theorem dX0_badGenotype_0 : decode cX0_badGenotype 0 = .ok (.iload_n 1, 1) := by decide +kernel
theorem dX0_badGenotype_1 : decode cX0_badGenotype 1 = .ok (.ifCond .lt 8, 3) := by decide +kernel
theorem dX0_badGenotype_4 : decode cX0_badGenotype 4 = .ok (.iload_n 1, 1) := by decide +kernel
theorem dX0_badGenotype_5 : decode cX0_badGenotype 5 = .ok (.iconst 2, 1) := by decide +kernel
theorem dX0_badGenotype_6 : decode cX0_badGenotype 6 = .ok (.if_icmp .le 7, 3) := by decide +kernel
theorem dX0_badGenotype_9 : decode cX0_badGenotype 9 = .ok (.iconst 1, 1) := by decide +kernel
theorem dX0_badGenotype_10 : decode cX0_badGenotype 10 = .ok (.goto 4, 3) := by decide +kernel
theorem dX0_badGenotype_13 : decode cX0_badGenotype 13 = .ok (.iconst 0, 1) := by decide +kernel
theorem dX0_badGenotype_14 : decode cX0_badGenotype 14 = .ok (.ireturn, 1) := by decide +kernel
theorem dX0_seen_0 : decode cX0_seen 0 = .ok (.aload_n 0, 1) := by decide +kernel
theorem dX0_seen_1 : decode cX0_seen 1 = .ok (.iload_n 1, 1) := by decide +kernel
theorem dX0_seen_2 : decode cX0_seen 2 = .ok (.invokevirtual 46, 3) := by decide +kernel
theorem dX0_seen_5 : decode cX0_seen 5 = .ok (.ifCond .ne 11, 3) := by decide +kernel
theorem dX0_seen_8 : decode cX0_seen 8 = .ok (.aload_n 0, 1) := by decide +kernel
theorem dX0_seen_9 : decode cX0_seen 9 = .ok (.iload_n 2, 1) := by decide +kernel
theorem dX0_seen_10 : decode cX0_seen 10 = .ok (.invokevirtual 50, 3) := by decide +kernel
theorem dX0_seen_13 : decode cX0_seen 13 = .ok (.ifCond .eq 5, 3) := by decide +kernel
theorem dX0_seen_16 : decode cX0_seen 16 = .ok (.iconst (-1), 1) := by decide +kernel
theorem dX0_seen_17 : decode cX0_seen 17 = .ok (.ireturn, 1) := by decide +kernel
theorem dX0_seen_18 : decode cX0_seen 18 = .ok (.aload_n 0, 1) := by decide +kernel
theorem dX0_seen_19 : decode cX0_seen 19 = .ok (.getfield 16, 3) := by decide +kernel
theorem dX0_seen_22 : decode cX0_seen 22 = .ok (.iload_n 1, 1) := by decide +kernel
theorem dX0_seen_23 : decode cX0_seen 23 = .ok (.iconst 3, 1) := by decide +kernel
theorem dX0_seen_24 : decode cX0_seen 24 = .ok (.imul, 1) := by decide +kernel
theorem dX0_seen_25 : decode cX0_seen 25 = .ok (.iload_n 2, 1) := by decide +kernel
theorem dX0_seen_26 : decode cX0_seen 26 = .ok (.iadd, 1) := by decide +kernel
theorem dX0_seen_27 : decode cX0_seen 27 = .ok (.iaload, 1) := by decide +kernel
theorem dX0_seen_28 : decode cX0_seen 28 = .ok (.ireturn, 1) := by decide +kernel
theorem dX0_likelihood_0 : decode cX0_likelihood 0 = .ok (.aload_n 0, 1) := by decide +kernel
theorem dX0_likelihood_1 : decode cX0_likelihood 1 = .ok (.invokevirtual 108, 3) := by decide +kernel
theorem dX0_likelihood_4 : decode cX0_likelihood 4 = .ok (.aload_n 0, 1) := by decide +kernel
theorem dX0_likelihood_5 : decode cX0_likelihood 5 = .ok (.invokevirtual 111, 3) := by decide +kernel
theorem dX0_likelihood_8 : decode cX0_likelihood 8 = .ok (.lreturn, 1) := by decide +kernel
theorem dX0_allowAll_0 : decode cX0_allowAll 0 = .ok (.aload_n 0, 1) := by decide +kernel
theorem dX0_allowAll_1 : decode cX0_allowAll 1 = .ok (.iconst 0, 1) := by decide +kernel
theorem dX0_allowAll_2 : decode cX0_allowAll 2 = .ok (.putfield 61, 3) := by decide +kernel
theorem dX0_allowAll_5 : decode cX0_allowAll 5 = .ok (.iconst 0, 1) := by decide +kernel
theorem dX0_allowAll_6 : decode cX0_allowAll 6 = .ok (.istore_n 1, 1) := by decide +kernel
theorem dX0_allowAll_7 : decode cX0_allowAll 7 = .ok (.iload_n 1, 1) := by decide +kernel
theorem dX0_allowAll_8 : decode cX0_allowAll 8 = .ok (.bipush 7, 2) := by decide +kernel
theorem dX0_allowAll_10 : decode cX0_allowAll 10 = .ok (.if_icmp .ge 17, 3) := by decide +kernel
theorem dX0_allowAll_13 : decode cX0_allowAll 13 = .ok (.aload_n 0, 1) := by decide +kernel
theorem dX0_allowAll_14 : decode cX0_allowAll 14 = .ok (.getfield 19, 3) := by decide +kernel
theorem dX0_allowAll_17 : decode cX0_allowAll 17 = .ok (.iload_n 1, 1) := by decide +kernel
theorem dX0_allowAll_18 : decode cX0_allowAll 18 = .ok (.bipush 7, 2) := by decide +kernel
theorem dX0_allowAll_20 : decode cX0_allowAll 20 = .ok (.iastore, 1) := by decide +kernel
theorem dX0_allowAll_21 : decode cX0_allowAll 21 = .ok (.iinc 1 1, 3) := by decide +kernel
theorem dX0_allowAll_24 : decode cX0_allowAll 24 = .ok (.goto (-17), 3) := by decide +kernel
theorem dX0_allowAll_27 : decode cX0_allowAll 27 = .ok (.return_, 1) := by decide +kernel
theorem dX0_sum_0 : decode cX0_sum 0 = .ok (.aload_n 0, 1) := by decide +kernel
theorem dX0_sum_1 : decode cX0_sum 1 = .ok (.iconst 0, 1) := by decide +kernel
theorem dX0_sum_2 : decode cX0_sum 2 = .ok (.putfield 65, 3) := by decide +kernel
theorem dX0_sum_5 : decode cX0_sum 5 = .ok (.aload_n 0, 1) := by decide +kernel
theorem dX0_sum_6 : decode cX0_sum 6 = .ok (.iconst 0, 1) := by decide +kernel
theorem dX0_sum_7 : decode cX0_sum 7 = .ok (.putfield 68, 3) := by decide +kernel
theorem dX0_sum_10 : decode cX0_sum 10 = .ok (.iconst 0, 1) := by decide +kernel
theorem dX0_sum_11 : decode cX0_sum 11 = .ok (.istore_n 1, 1) := by decide +kernel
theorem dX0_sum_12 : decode cX0_sum 12 = .ok (.iload_n 1, 1) := by decide +kernel
theorem dX0_sum_13 : decode cX0_sum 13 = .ok (.aload_n 0, 1) := by decide +kernel
theorem dX0_sum_14 : decode cX0_sum 14 = .ok (.getfield 39, 3) := by decide +kernel
theorem dX0_sum_17 : decode cX0_sum 17 = .ok (.if_icmp .ge 14, 3) := by decide +kernel
theorem dX0_sum_20 : decode cX0_sum 20 = .ok (.aload_n 0, 1) := by decide +kernel
theorem dX0_sum_21 : decode cX0_sum 21 = .ok (.iload_n 1, 1) := by decide +kernel
theorem dX0_sum_22 : decode cX0_sum 22 = .ok (.invokevirtual 98, 3) := by decide +kernel
theorem dX0_sum_25 : decode cX0_sum 25 = .ok (.iinc 1 1, 3) := by decide +kernel
theorem dX0_sum_28 : decode cX0_sum 28 = .ok (.goto (-16), 3) := by decide +kernel
theorem dX0_sum_31 : decode cX0_sum 31 = .ok (.iconst 1, 1) := by decide +kernel
theorem dX0_sum_32 : decode cX0_sum 32 = .ok (.aload_n 0, 1) := by decide +kernel
theorem dX0_sum_33 : decode cX0_sum 33 = .ok (.getfield 39, 3) := by decide +kernel
theorem dX0_sum_36 : decode cX0_sum 36 = .ok (.ishl, 1) := by decide +kernel
theorem dX0_sum_37 : decode cX0_sum 37 = .ok (.iconst 1, 1) := by decide +kernel
theorem dX0_sum_38 : decode cX0_sum 38 = .ok (.isub, 1) := by decide +kernel
theorem dX0_sum_39 : decode cX0_sum 39 = .ok (.istore_n 1, 1) := by decide +kernel
theorem dX0_sum_40 : decode cX0_sum 40 = .ok (.iconst 0, 1) := by decide +kernel
theorem dX0_sum_41 : decode cX0_sum 41 = .ok (.istore_n 2, 1) := by decide +kernel
theorem dX0_sum_42 : decode cX0_sum 42 = .ok (.iload_n 2, 1) := by decide +kernel
theorem dX0_sum_43 : decode cX0_sum 43 = .ok (.aload_n 0, 1) := by decide +kernel
theorem dX0_sum_44 : decode cX0_sum 44 = .ok (.getfield 39, 3) := by decide +kernel
theorem dX0_sum_47 : decode cX0_sum 47 = .ok (.if_icmp .ge 32, 3) := by decide +kernel
theorem dX0_sum_50 : decode cX0_sum 50 = .ok (.aload_n 0, 1) := by decide +kernel
theorem dX0_sum_51 : decode cX0_sum 51 = .ok (.iload_n 1, 1) := by decide +kernel
theorem dX0_sum_52 : decode cX0_sum 52 = .ok (.invokevirtual 102, 3) := by decide +kernel
theorem dX0_sum_55 : decode cX0_sum 55 = .ok (.istore_n 3, 1) := by decide +kernel
theorem dX0_sum_56 : decode cX0_sum 56 = .ok (.iload_n 3, 1) := by decide +kernel
theorem dX0_sum_57 : decode cX0_sum 57 = .ok (.ifCond .lt 16, 3) := by decide +kernel
theorem dX0_sum_60 : decode cX0_sum 60 = .ok (.aload_n 0, 1) := by decide +kernel
theorem dX0_sum_61 : decode cX0_sum 61 = .ok (.iload_n 3, 1) := by decide +kernel
theorem dX0_sum_62 : decode cX0_sum 62 = .ok (.invokevirtual 105, 3) := by decide +kernel
theorem dX0_sum_65 : decode cX0_sum 65 = .ok (.iload_n 1, 1) := by decide +kernel
theorem dX0_sum_66 : decode cX0_sum 66 = .ok (.iconst 1, 1) := by decide +kernel
theorem dX0_sum_67 : decode cX0_sum 67 = .ok (.iload_n 3, 1) := by decide +kernel
theorem dX0_sum_68 : decode cX0_sum 68 = .ok (.ishl, 1) := by decide +kernel
theorem dX0_sum_69 : decode cX0_sum 69 = .ok (.iconst (-1), 1) := by decide +kernel
theorem dX0_sum_70 : decode cX0_sum 70 = .ok (.ixor, 1) := by decide +kernel
theorem dX0_sum_71 : decode cX0_sum 71 = .ok (.iand, 1) := by decide +kernel
theorem dX0_sum_72 : decode cX0_sum 72 = .ok (.istore_n 1, 1) := by decide +kernel
theorem dX0_sum_73 : decode cX0_sum 73 = .ok (.iinc 2 1, 3) := by decide +kernel
theorem dX0_sum_76 : decode cX0_sum 76 = .ok (.goto (-34), 3) := by decide +kernel
theorem dX0_sum_79 : decode cX0_sum 79 = .ok (.lconst 1, 1) := by decide +kernel
theorem dX0_sum_80 : decode cX0_sum 80 = .ok (.lstore_n 2, 1) := by decide +kernel
theorem dX0_sum_81 : decode cX0_sum 81 = .ok (.iconst 0, 1) := by decide +kernel
theorem dX0_sum_82 : decode cX0_sum 82 = .ok (.istore 4, 2) := by decide +kernel
theorem dX0_sum_84 : decode cX0_sum 84 = .ok (.iload 4, 2) := by decide +kernel
theorem dX0_sum_86 : decode cX0_sum 86 = .ok (.aload_n 0, 1) := by decide +kernel
theorem dX0_sum_87 : decode cX0_sum 87 = .ok (.getfield 65, 3) := by decide +kernel
theorem dX0_sum_90 : decode cX0_sum 90 = .ok (.if_icmp .ge 24, 3) := by decide +kernel
theorem dX0_sum_93 : decode cX0_sum 93 = .ok (.lload_n 2, 1) := by decide +kernel
theorem dX0_sum_94 : decode cX0_sum 94 = .ok (.aload_n 0, 1) := by decide +kernel
theorem dX0_sum_95 : decode cX0_sum 95 = .ok (.getfield 28, 3) := by decide +kernel
theorem dX0_sum_98 : decode cX0_sum 98 = .ok (.aload_n 0, 1) := by decide +kernel
theorem dX0_sum_99 : decode cX0_sum 99 = .ok (.getfield 25, 3) := by decide +kernel
theorem dX0_sum_102 : decode cX0_sum 102 = .ok (.iload 4, 2) := by decide +kernel
theorem dX0_sum_104 : decode cX0_sum 104 = .ok (.iaload, 1) := by decide +kernel
theorem dX0_sum_105 : decode cX0_sum 105 = .ok (.laload, 1) := by decide +kernel
theorem dX0_sum_106 : decode cX0_sum 106 = .ok (.lmul, 1) := by decide +kernel
theorem dX0_sum_107 : decode cX0_sum 107 = .ok (.lstore_n 2, 1) := by decide +kernel
theorem dX0_sum_108 : decode cX0_sum 108 = .ok (.iinc 4 1, 3) := by decide +kernel
theorem dX0_sum_111 : decode cX0_sum 111 = .ok (.goto (-27), 3) := by decide +kernel
theorem dX0_sum_114 : decode cX0_sum 114 = .ok (.lload_n 2, 1) := by decide +kernel
theorem dX0_sum_115 : decode cX0_sum 115 = .ok (.lreturn, 1) := by decide +kernel
theorem dX0_personTable_0 : decode cX0_personTable 0 = .ok (.iconst 1, 1) := by decide +kernel
theorem dX0_personTable_1 : decode cX0_personTable 1 = .ok (.iload_n 1, 1) := by decide +kernel
theorem dX0_personTable_2 : decode cX0_personTable 2 = .ok (.ishl, 1) := by decide +kernel
theorem dX0_personTable_3 : decode cX0_personTable 3 = .ok (.istore_n 2, 1) := by decide +kernel
theorem dX0_personTable_4 : decode cX0_personTable 4 = .ok (.aload_n 0, 1) := by decide +kernel
theorem dX0_personTable_5 : decode cX0_personTable 5 = .ok (.getfield 7, 3) := by decide +kernel
theorem dX0_personTable_8 : decode cX0_personTable 8 = .ok (.iload_n 1, 1) := by decide +kernel
theorem dX0_personTable_9 : decode cX0_personTable 9 = .ok (.iaload, 1) := by decide +kernel
theorem dX0_personTable_10 : decode cX0_personTable 10 = .ok (.ifCond .lt 23, 3) := by decide +kernel
theorem dX0_personTable_13 : decode cX0_personTable 13 = .ok (.iload_n 2, 1) := by decide +kernel
theorem dX0_personTable_14 : decode cX0_personTable 14 = .ok (.iconst 1, 1) := by decide +kernel
theorem dX0_personTable_15 : decode cX0_personTable 15 = .ok (.aload_n 0, 1) := by decide +kernel
theorem dX0_personTable_16 : decode cX0_personTable 16 = .ok (.getfield 7, 3) := by decide +kernel
theorem dX0_personTable_19 : decode cX0_personTable 19 = .ok (.iload_n 1, 1) := by decide +kernel
theorem dX0_personTable_20 : decode cX0_personTable 20 = .ok (.iaload, 1) := by decide +kernel
theorem dX0_personTable_21 : decode cX0_personTable 21 = .ok (.ishl, 1) := by decide +kernel
theorem dX0_personTable_22 : decode cX0_personTable 22 = .ok (.ior, 1) := by decide +kernel
theorem dX0_personTable_23 : decode cX0_personTable 23 = .ok (.iconst 1, 1) := by decide +kernel
theorem dX0_personTable_24 : decode cX0_personTable 24 = .ok (.aload_n 0, 1) := by decide +kernel
theorem dX0_personTable_25 : decode cX0_personTable 25 = .ok (.getfield 13, 3) := by decide +kernel
theorem dX0_personTable_28 : decode cX0_personTable 28 = .ok (.iload_n 1, 1) := by decide +kernel
theorem dX0_personTable_29 : decode cX0_personTable 29 = .ok (.iaload, 1) := by decide +kernel
theorem dX0_personTable_30 : decode cX0_personTable 30 = .ok (.ishl, 1) := by decide +kernel
theorem dX0_personTable_31 : decode cX0_personTable 31 = .ok (.ior, 1) := by decide +kernel
theorem dX0_personTable_32 : decode cX0_personTable 32 = .ok (.istore_n 2, 1) := by decide +kernel
theorem dX0_personTable_33 : decode cX0_personTable 33 = .ok (.aload_n 0, 1) := by decide +kernel
theorem dX0_personTable_34 : decode cX0_personTable 34 = .ok (.iload_n 2, 1) := by decide +kernel
theorem dX0_personTable_35 : decode cX0_personTable 35 = .ok (.invokevirtual 77, 3) := by decide +kernel
theorem dX0_personTable_38 : decode cX0_personTable 38 = .ok (.istore_n 3, 1) := by decide +kernel
theorem dX0_personTable_39 : decode cX0_personTable 39 = .ok (.aload_n 0, 1) := by decide +kernel
theorem dX0_personTable_40 : decode cX0_personTable 40 = .ok (.iload_n 2, 1) := by decide +kernel
theorem dX0_personTable_41 : decode cX0_personTable 41 = .ok (.invokevirtual 71, 3) := by decide +kernel
theorem dX0_personTable_44 : decode cX0_personTable 44 = .ok (.istore 4, 2) := by decide +kernel
theorem dX0_personTable_46 : decode cX0_personTable 46 = .ok (.aload_n 0, 1) := by decide +kernel
theorem dX0_personTable_47 : decode cX0_personTable 47 = .ok (.iload 4, 2) := by decide +kernel
theorem dX0_personTable_49 : decode cX0_personTable 49 = .ok (.invokevirtual 74, 3) := by decide +kernel
theorem dX0_personTable_52 : decode cX0_personTable 52 = .ok (.istore 5, 2) := by decide +kernel
theorem dX0_personTable_54 : decode cX0_personTable 54 = .ok (.iconst 0, 1) := by decide +kernel
theorem dX0_personTable_55 : decode cX0_personTable 55 = .ok (.istore 6, 2) := by decide +kernel
theorem dX0_personTable_57 : decode cX0_personTable 57 = .ok (.iload 6, 2) := by decide +kernel
theorem dX0_personTable_59 : decode cX0_personTable 59 = .ok (.iload 5, 2) := by decide +kernel
theorem dX0_personTable_61 : decode cX0_personTable 61 = .ok (.if_icmp .ge 35, 3) := by decide +kernel
theorem dX0_personTable_64 : decode cX0_personTable 64 = .ok (.aload_n 0, 1) := by decide +kernel
theorem dX0_personTable_65 : decode cX0_personTable 65 = .ok (.iload_n 2, 1) := by decide +kernel
theorem dX0_personTable_66 : decode cX0_personTable 66 = .ok (.iload 6, 2) := by decide +kernel
theorem dX0_personTable_68 : decode cX0_personTable 68 = .ok (.invokevirtual 80, 3) := by decide +kernel
theorem dX0_personTable_71 : decode cX0_personTable 71 = .ok (.aload_n 0, 1) := by decide +kernel
theorem dX0_personTable_72 : decode cX0_personTable 72 = .ok (.getfield 28, 3) := by decide +kernel
theorem dX0_personTable_75 : decode cX0_personTable 75 = .ok (.aload_n 0, 1) := by decide +kernel
theorem dX0_personTable_76 : decode cX0_personTable 76 = .ok (.getfield 25, 3) := by decide +kernel
theorem dX0_personTable_79 : decode cX0_personTable 79 = .ok (.iload_n 3, 1) := by decide +kernel
theorem dX0_personTable_80 : decode cX0_personTable 80 = .ok (.iaload, 1) := by decide +kernel
theorem dX0_personTable_81 : decode cX0_personTable 81 = .ok (.iload 6, 2) := by decide +kernel
theorem dX0_personTable_83 : decode cX0_personTable 83 = .ok (.iadd, 1) := by decide +kernel
theorem dX0_personTable_84 : decode cX0_personTable 84 = .ok (.aload_n 0, 1) := by decide +kernel
theorem dX0_personTable_85 : decode cX0_personTable 85 = .ok (.iload_n 1, 1) := by decide +kernel
theorem dX0_personTable_86 : decode cX0_personTable 86 = .ok (.invokevirtual 84, 3) := by decide +kernel
theorem dX0_personTable_89 : decode cX0_personTable 89 = .ok (.lastore, 1) := by decide +kernel
theorem dX0_personTable_90 : decode cX0_personTable 90 = .ok (.iinc 6 1, 3) := by decide +kernel
theorem dX0_personTable_93 : decode cX0_personTable 93 = .ok (.goto (-36), 3) := by decide +kernel
theorem dX0_personTable_96 : decode cX0_personTable 96 = .ok (.return_, 1) := by decide +kernel
theorem dX0_openTable_0 : decode cX0_openTable 0 = .ok (.aload_n 0, 1) := by decide +kernel
theorem dX0_openTable_1 : decode cX0_openTable 1 = .ok (.getfield 65, 3) := by decide +kernel
theorem dX0_openTable_4 : decode cX0_openTable 4 = .ok (.istore_n 2, 1) := by decide +kernel
theorem dX0_openTable_5 : decode cX0_openTable 5 = .ok (.aload_n 0, 1) := by decide +kernel
theorem dX0_openTable_6 : decode cX0_openTable 6 = .ok (.dup, 1) := by decide +kernel
theorem dX0_openTable_7 : decode cX0_openTable 7 = .ok (.getfield 65, 3) := by decide +kernel
theorem dX0_openTable_10 : decode cX0_openTable 10 = .ok (.iconst 1, 1) := by decide +kernel
theorem dX0_openTable_11 : decode cX0_openTable 11 = .ok (.iadd, 1) := by decide +kernel
theorem dX0_openTable_12 : decode cX0_openTable 12 = .ok (.putfield 65, 3) := by decide +kernel
theorem dX0_openTable_15 : decode cX0_openTable 15 = .ok (.aload_n 0, 1) := by decide +kernel
theorem dX0_openTable_16 : decode cX0_openTable 16 = .ok (.getfield 22, 3) := by decide +kernel
theorem dX0_openTable_19 : decode cX0_openTable 19 = .ok (.iload_n 2, 1) := by decide +kernel
theorem dX0_openTable_20 : decode cX0_openTable 20 = .ok (.iload_n 1, 1) := by decide +kernel
theorem dX0_openTable_21 : decode cX0_openTable 21 = .ok (.iastore, 1) := by decide +kernel
theorem dX0_openTable_22 : decode cX0_openTable 22 = .ok (.aload_n 0, 1) := by decide +kernel
theorem dX0_openTable_23 : decode cX0_openTable 23 = .ok (.getfield 25, 3) := by decide +kernel
theorem dX0_openTable_26 : decode cX0_openTable 26 = .ok (.iload_n 2, 1) := by decide +kernel
theorem dX0_openTable_27 : decode cX0_openTable 27 = .ok (.aload_n 0, 1) := by decide +kernel
theorem dX0_openTable_28 : decode cX0_openTable 28 = .ok (.getfield 68, 3) := by decide +kernel
theorem dX0_openTable_31 : decode cX0_openTable 31 = .ok (.iastore, 1) := by decide +kernel
theorem dX0_openTable_32 : decode cX0_openTable 32 = .ok (.aload_n 0, 1) := by decide +kernel
theorem dX0_openTable_33 : decode cX0_openTable 33 = .ok (.iload_n 1, 1) := by decide +kernel
theorem dX0_openTable_34 : decode cX0_openTable 34 = .ok (.invokevirtual 71, 3) := by decide +kernel
theorem dX0_openTable_37 : decode cX0_openTable 37 = .ok (.istore_n 3, 1) := by decide +kernel
theorem dX0_openTable_38 : decode cX0_openTable 38 = .ok (.aload_n 0, 1) := by decide +kernel
theorem dX0_openTable_39 : decode cX0_openTable 39 = .ok (.iload_n 3, 1) := by decide +kernel
theorem dX0_openTable_40 : decode cX0_openTable 40 = .ok (.invokevirtual 74, 3) := by decide +kernel
theorem dX0_openTable_43 : decode cX0_openTable 43 = .ok (.istore 4, 2) := by decide +kernel
theorem dX0_openTable_45 : decode cX0_openTable 45 = .ok (.aload_n 0, 1) := by decide +kernel
theorem dX0_openTable_46 : decode cX0_openTable 46 = .ok (.aload_n 0, 1) := by decide +kernel
theorem dX0_openTable_47 : decode cX0_openTable 47 = .ok (.getfield 68, 3) := by decide +kernel
theorem dX0_openTable_50 : decode cX0_openTable 50 = .ok (.iload 4, 2) := by decide +kernel
theorem dX0_openTable_52 : decode cX0_openTable 52 = .ok (.iadd, 1) := by decide +kernel
theorem dX0_openTable_53 : decode cX0_openTable 53 = .ok (.putfield 68, 3) := by decide +kernel
theorem dX0_openTable_56 : decode cX0_openTable 56 = .ok (.iload_n 2, 1) := by decide +kernel
theorem dX0_openTable_57 : decode cX0_openTable 57 = .ok (.ireturn, 1) := by decide +kernel
theorem dX0_sizeOf_0 : decode cX0_sizeOf 0 = .ok (.iconst 0, 1) := by decide +kernel
theorem dX0_sizeOf_1 : decode cX0_sizeOf 1 = .ok (.istore_n 2, 1) := by decide +kernel
theorem dX0_sizeOf_2 : decode cX0_sizeOf 2 = .ok (.iconst 0, 1) := by decide +kernel
theorem dX0_sizeOf_3 : decode cX0_sizeOf 3 = .ok (.istore_n 3, 1) := by decide +kernel
theorem dX0_sizeOf_4 : decode cX0_sizeOf 4 = .ok (.iload_n 3, 1) := by decide +kernel
theorem dX0_sizeOf_5 : decode cX0_sizeOf 5 = .ok (.bipush 7, 2) := by decide +kernel
theorem dX0_sizeOf_7 : decode cX0_sizeOf 7 = .ok (.if_icmp .ge 17, 3) := by decide +kernel
theorem dX0_sizeOf_10 : decode cX0_sizeOf 10 = .ok (.iload_n 2, 1) := by decide +kernel
theorem dX0_sizeOf_11 : decode cX0_sizeOf 11 = .ok (.iload_n 1, 1) := by decide +kernel
theorem dX0_sizeOf_12 : decode cX0_sizeOf 12 = .ok (.iload_n 3, 1) := by decide +kernel
theorem dX0_sizeOf_13 : decode cX0_sizeOf 13 = .ok (.ishr, 1) := by decide +kernel
theorem dX0_sizeOf_14 : decode cX0_sizeOf 14 = .ok (.iconst 1, 1) := by decide +kernel
theorem dX0_sizeOf_15 : decode cX0_sizeOf 15 = .ok (.iand, 1) := by decide +kernel
theorem dX0_sizeOf_16 : decode cX0_sizeOf 16 = .ok (.iadd, 1) := by decide +kernel
theorem dX0_sizeOf_17 : decode cX0_sizeOf 17 = .ok (.istore_n 2, 1) := by decide +kernel
theorem dX0_sizeOf_18 : decode cX0_sizeOf 18 = .ok (.iinc 3 1, 3) := by decide +kernel
theorem dX0_sizeOf_21 : decode cX0_sizeOf 21 = .ok (.goto (-17), 3) := by decide +kernel
theorem dX0_sizeOf_24 : decode cX0_sizeOf 24 = .ok (.iload_n 2, 1) := by decide +kernel
theorem dX0_sizeOf_25 : decode cX0_sizeOf 25 = .ok (.ireturn, 1) := by decide +kernel
theorem dX0_power_0 : decode cX0_power 0 = .ok (.iconst 1, 1) := by decide +kernel
theorem dX0_power_1 : decode cX0_power 1 = .ok (.istore_n 2, 1) := by decide +kernel
theorem dX0_power_2 : decode cX0_power 2 = .ok (.iconst 0, 1) := by decide +kernel
theorem dX0_power_3 : decode cX0_power 3 = .ok (.istore_n 3, 1) := by decide +kernel
theorem dX0_power_4 : decode cX0_power 4 = .ok (.iload_n 3, 1) := by decide +kernel
theorem dX0_power_5 : decode cX0_power 5 = .ok (.iload_n 1, 1) := by decide +kernel
theorem dX0_power_6 : decode cX0_power 6 = .ok (.if_icmp .ge 13, 3) := by decide +kernel
theorem dX0_power_9 : decode cX0_power 9 = .ok (.iload_n 2, 1) := by decide +kernel
theorem dX0_power_10 : decode cX0_power 10 = .ok (.iconst 3, 1) := by decide +kernel
theorem dX0_power_11 : decode cX0_power 11 = .ok (.imul, 1) := by decide +kernel
theorem dX0_power_12 : decode cX0_power 12 = .ok (.istore_n 2, 1) := by decide +kernel
theorem dX0_power_13 : decode cX0_power 13 = .ok (.iinc 3 1, 3) := by decide +kernel
theorem dX0_power_16 : decode cX0_power 16 = .ok (.goto (-12), 3) := by decide +kernel
theorem dX0_power_19 : decode cX0_power 19 = .ok (.iload_n 2, 1) := by decide +kernel
theorem dX0_power_20 : decode cX0_power 20 = .ok (.ireturn, 1) := by decide +kernel
theorem dX0_spread_0 : decode cX0_spread 0 = .ok (.iload_n 2, 1) := by decide +kernel
theorem dX0_spread_1 : decode cX0_spread 1 = .ok (.istore_n 3, 1) := by decide +kernel
theorem dX0_spread_2 : decode cX0_spread 2 = .ok (.iconst 0, 1) := by decide +kernel
theorem dX0_spread_3 : decode cX0_spread 3 = .ok (.istore 4, 2) := by decide +kernel
theorem dX0_spread_5 : decode cX0_spread 5 = .ok (.iload 4, 2) := by decide +kernel
theorem dX0_spread_7 : decode cX0_spread 7 = .ok (.bipush 7, 2) := by decide +kernel
theorem dX0_spread_9 : decode cX0_spread 9 = .ok (.if_icmp .ge 33, 3) := by decide +kernel
theorem dX0_spread_12 : decode cX0_spread 12 = .ok (.iload_n 1, 1) := by decide +kernel
theorem dX0_spread_13 : decode cX0_spread 13 = .ok (.iload 4, 2) := by decide +kernel
theorem dX0_spread_15 : decode cX0_spread 15 = .ok (.ishr, 1) := by decide +kernel
theorem dX0_spread_16 : decode cX0_spread 16 = .ok (.iconst 1, 1) := by decide +kernel
theorem dX0_spread_17 : decode cX0_spread 17 = .ok (.iand, 1) := by decide +kernel
theorem dX0_spread_18 : decode cX0_spread 18 = .ok (.iconst 1, 1) := by decide +kernel
theorem dX0_spread_19 : decode cX0_spread 19 = .ok (.if_icmp .ne 17, 3) := by decide +kernel
theorem dX0_spread_22 : decode cX0_spread 22 = .ok (.aload_n 0, 1) := by decide +kernel
theorem dX0_spread_23 : decode cX0_spread 23 = .ok (.getfield 32, 3) := by decide +kernel
theorem dX0_spread_26 : decode cX0_spread 26 = .ok (.iload 4, 2) := by decide +kernel
theorem dX0_spread_28 : decode cX0_spread 28 = .ok (.iload_n 3, 1) := by decide +kernel
theorem dX0_spread_29 : decode cX0_spread 29 = .ok (.iconst 3, 1) := by decide +kernel
theorem dX0_spread_30 : decode cX0_spread 30 = .ok (.irem, 1) := by decide +kernel
theorem dX0_spread_31 : decode cX0_spread 31 = .ok (.iastore, 1) := by decide +kernel
theorem dX0_spread_32 : decode cX0_spread 32 = .ok (.iload_n 3, 1) := by decide +kernel
theorem dX0_spread_33 : decode cX0_spread 33 = .ok (.iconst 3, 1) := by decide +kernel
theorem dX0_spread_34 : decode cX0_spread 34 = .ok (.idiv, 1) := by decide +kernel
theorem dX0_spread_35 : decode cX0_spread 35 = .ok (.istore_n 3, 1) := by decide +kernel
theorem dX0_spread_36 : decode cX0_spread 36 = .ok (.iinc 4 1, 3) := by decide +kernel
theorem dX0_spread_39 : decode cX0_spread 39 = .ok (.goto (-34), 3) := by decide +kernel
theorem dX0_spread_42 : decode cX0_spread 42 = .ok (.return_, 1) := by decide +kernel
theorem dX0_factor_0 : decode cX0_factor 0 = .ok (.aload_n 0, 1) := by decide +kernel
theorem dX0_factor_1 : decode cX0_factor 1 = .ok (.getfield 32, 3) := by decide +kernel
theorem dX0_factor_4 : decode cX0_factor 4 = .ok (.iload_n 1, 1) := by decide +kernel
theorem dX0_factor_5 : decode cX0_factor 5 = .ok (.iaload, 1) := by decide +kernel
theorem dX0_factor_6 : decode cX0_factor 6 = .ok (.istore_n 2, 1) := by decide +kernel
theorem dX0_factor_7 : decode cX0_factor 7 = .ok (.aload_n 0, 1) := by decide +kernel
theorem dX0_factor_8 : decode cX0_factor 8 = .ok (.getfield 19, 3) := by decide +kernel
theorem dX0_factor_11 : decode cX0_factor 11 = .ok (.iload_n 1, 1) := by decide +kernel
theorem dX0_factor_12 : decode cX0_factor 12 = .ok (.iaload, 1) := by decide +kernel
theorem dX0_factor_13 : decode cX0_factor 13 = .ok (.iload_n 2, 1) := by decide +kernel
theorem dX0_factor_14 : decode cX0_factor 14 = .ok (.ishr, 1) := by decide +kernel
theorem dX0_factor_15 : decode cX0_factor 15 = .ok (.iconst 1, 1) := by decide +kernel
theorem dX0_factor_16 : decode cX0_factor 16 = .ok (.iand, 1) := by decide +kernel
theorem dX0_factor_17 : decode cX0_factor 17 = .ok (.ifCond .ne 5, 3) := by decide +kernel
theorem dX0_factor_20 : decode cX0_factor 20 = .ok (.lconst 0, 1) := by decide +kernel
theorem dX0_factor_21 : decode cX0_factor 21 = .ok (.lreturn, 1) := by decide +kernel
theorem dX0_factor_22 : decode cX0_factor 22 = .ok (.aload_n 0, 1) := by decide +kernel
theorem dX0_factor_23 : decode cX0_factor 23 = .ok (.getfield 7, 3) := by decide +kernel
theorem dX0_factor_26 : decode cX0_factor 26 = .ok (.iload_n 1, 1) := by decide +kernel
theorem dX0_factor_27 : decode cX0_factor 27 = .ok (.iaload, 1) := by decide +kernel
theorem dX0_factor_28 : decode cX0_factor 28 = .ok (.ifCond .ge 11, 3) := by decide +kernel
theorem dX0_factor_31 : decode cX0_factor 31 = .ok (.aload_n 0, 1) := by decide +kernel
theorem dX0_factor_32 : decode cX0_factor 32 = .ok (.iload_n 2, 1) := by decide +kernel
theorem dX0_factor_33 : decode cX0_factor 33 = .ok (.invokevirtual 53, 3) := by decide +kernel
theorem dX0_factor_36 : decode cX0_factor 36 = .ok (.goto 30, 3) := by decide +kernel
theorem dX0_factor_39 : decode cX0_factor 39 = .ok (.aload_n 0, 1) := by decide +kernel
theorem dX0_factor_40 : decode cX0_factor 40 = .ok (.iload_n 2, 1) := by decide +kernel
theorem dX0_factor_41 : decode cX0_factor 41 = .ok (.aload_n 0, 1) := by decide +kernel
theorem dX0_factor_42 : decode cX0_factor 42 = .ok (.getfield 32, 3) := by decide +kernel
theorem dX0_factor_45 : decode cX0_factor 45 = .ok (.aload_n 0, 1) := by decide +kernel
theorem dX0_factor_46 : decode cX0_factor 46 = .ok (.getfield 7, 3) := by decide +kernel
theorem dX0_factor_49 : decode cX0_factor 49 = .ok (.iload_n 1, 1) := by decide +kernel
theorem dX0_factor_50 : decode cX0_factor 50 = .ok (.iaload, 1) := by decide +kernel
theorem dX0_factor_51 : decode cX0_factor 51 = .ok (.iaload, 1) := by decide +kernel
theorem dX0_factor_52 : decode cX0_factor 52 = .ok (.aload_n 0, 1) := by decide +kernel
theorem dX0_factor_53 : decode cX0_factor 53 = .ok (.getfield 32, 3) := by decide +kernel
theorem dX0_factor_56 : decode cX0_factor 56 = .ok (.aload_n 0, 1) := by decide +kernel
end
section
set_option maxRecDepth 100000
theorem dX0_factor_57 : decode cX0_factor 57 = .ok (.getfield 13, 3) := by decide +kernel
theorem dX0_factor_60 : decode cX0_factor 60 = .ok (.iload_n 1, 1) := by decide +kernel
theorem dX0_factor_61 : decode cX0_factor 61 = .ok (.iaload, 1) := by decide +kernel
theorem dX0_factor_62 : decode cX0_factor 62 = .ok (.iaload, 1) := by decide +kernel
theorem dX0_factor_63 : decode cX0_factor 63 = .ok (.invokevirtual 57, 3) := by decide +kernel
theorem dX0_factor_66 : decode cX0_factor 66 = .ok (.istore_n 3, 1) := by decide +kernel
theorem dX0_factor_67 : decode cX0_factor 67 = .ok (.iload_n 3, 1) := by decide +kernel
theorem dX0_factor_68 : decode cX0_factor 68 = .ok (.aload_n 0, 1) := by decide +kernel
theorem dX0_factor_69 : decode cX0_factor 69 = .ok (.getfield 16, 3) := by decide +kernel
theorem dX0_factor_72 : decode cX0_factor 72 = .ok (.iload_n 1, 1) := by decide +kernel
theorem dX0_factor_73 : decode cX0_factor 73 = .ok (.iconst 3, 1) := by decide +kernel
theorem dX0_factor_74 : decode cX0_factor 74 = .ok (.imul, 1) := by decide +kernel
theorem dX0_factor_75 : decode cX0_factor 75 = .ok (.iload_n 2, 1) := by decide +kernel
theorem dX0_factor_76 : decode cX0_factor 76 = .ok (.iadd, 1) := by decide +kernel
theorem dX0_factor_77 : decode cX0_factor 77 = .ok (.iaload, 1) := by decide +kernel
theorem dX0_factor_78 : decode cX0_factor 78 = .ok (.imul, 1) := by decide +kernel
theorem dX0_factor_79 : decode cX0_factor 79 = .ok (.istore 4, 2) := by decide +kernel
theorem dX0_factor_81 : decode cX0_factor 81 = .ok (.aload_n 0, 1) := by decide +kernel
theorem dX0_factor_82 : decode cX0_factor 82 = .ok (.getfield 61, 3) := by decide +kernel
theorem dX0_factor_85 : decode cX0_factor 85 = .ok (.ifCond .eq 14, 3) := by decide +kernel
theorem dX0_factor_88 : decode cX0_factor 88 = .ok (.iload 4, 2) := by decide +kernel
theorem dX0_factor_90 : decode cX0_factor 90 = .ok (.ifCond .ne 7, 3) := by decide +kernel
theorem dX0_factor_93 : decode cX0_factor 93 = .ok (.lconst 0, 1) := by decide +kernel
theorem dX0_factor_94 : decode cX0_factor 94 = .ok (.goto 4, 3) := by decide +kernel
theorem dX0_factor_97 : decode cX0_factor 97 = .ok (.lconst 1, 1) := by decide +kernel
theorem dX0_factor_98 : decode cX0_factor 98 = .ok (.lreturn, 1) := by decide +kernel
theorem dX0_factor_99 : decode cX0_factor 99 = .ok (.iload 4, 2) := by decide +kernel
theorem dX0_factor_101 : decode cX0_factor 101 = .ok (.i2l, 1) := by decide +kernel
theorem dX0_factor_102 : decode cX0_factor 102 = .ok (.lreturn, 1) := by decide +kernel
theorem dX0_founderWeight_0 : decode cX0_founderWeight 0 = .ok (.iload_n 1, 1) := by decide +kernel
theorem dX0_founderWeight_1 : decode cX0_founderWeight 1 = .ok (.ifCond .ne 19, 3) := by decide +kernel
theorem dX0_founderWeight_4 : decode cX0_founderWeight 4 = .ok (.bipush 16, 2) := by decide +kernel
theorem dX0_founderWeight_6 : decode cX0_founderWeight 6 = .ok (.aload_n 0, 1) := by decide +kernel
theorem dX0_founderWeight_7 : decode cX0_founderWeight 7 = .ok (.getfield 35, 3) := by decide +kernel
theorem dX0_founderWeight_10 : decode cX0_founderWeight 10 = .ok (.isub, 1) := by decide +kernel
theorem dX0_founderWeight_11 : decode cX0_founderWeight 11 = .ok (.bipush 16, 2) := by decide +kernel
theorem dX0_founderWeight_13 : decode cX0_founderWeight 13 = .ok (.aload_n 0, 1) := by decide +kernel
theorem dX0_founderWeight_14 : decode cX0_founderWeight 14 = .ok (.getfield 35, 3) := by decide +kernel
theorem dX0_founderWeight_17 : decode cX0_founderWeight 17 = .ok (.isub, 1) := by decide +kernel
theorem dX0_founderWeight_18 : decode cX0_founderWeight 18 = .ok (.imul, 1) := by decide +kernel
theorem dX0_founderWeight_19 : decode cX0_founderWeight 19 = .ok (.ireturn, 1) := by decide +kernel
theorem dX0_founderWeight_20 : decode cX0_founderWeight 20 = .ok (.iload_n 1, 1) := by decide +kernel
theorem dX0_founderWeight_21 : decode cX0_founderWeight 21 = .ok (.iconst 1, 1) := by decide +kernel
theorem dX0_founderWeight_22 : decode cX0_founderWeight 22 = .ok (.if_icmp .ne 20, 3) := by decide +kernel
theorem dX0_founderWeight_25 : decode cX0_founderWeight 25 = .ok (.iconst 2, 1) := by decide +kernel
theorem dX0_founderWeight_26 : decode cX0_founderWeight 26 = .ok (.aload_n 0, 1) := by decide +kernel
theorem dX0_founderWeight_27 : decode cX0_founderWeight 27 = .ok (.getfield 35, 3) := by decide +kernel
theorem dX0_founderWeight_30 : decode cX0_founderWeight 30 = .ok (.imul, 1) := by decide +kernel
theorem dX0_founderWeight_31 : decode cX0_founderWeight 31 = .ok (.bipush 16, 2) := by decide +kernel
theorem dX0_founderWeight_33 : decode cX0_founderWeight 33 = .ok (.aload_n 0, 1) := by decide +kernel
theorem dX0_founderWeight_34 : decode cX0_founderWeight 34 = .ok (.getfield 35, 3) := by decide +kernel
theorem dX0_founderWeight_37 : decode cX0_founderWeight 37 = .ok (.isub, 1) := by decide +kernel
theorem dX0_founderWeight_38 : decode cX0_founderWeight 38 = .ok (.imul, 1) := by decide +kernel
theorem dX0_founderWeight_39 : decode cX0_founderWeight 39 = .ok (.goto 12, 3) := by decide +kernel
theorem dX0_founderWeight_42 : decode cX0_founderWeight 42 = .ok (.aload_n 0, 1) := by decide +kernel
theorem dX0_founderWeight_43 : decode cX0_founderWeight 43 = .ok (.getfield 35, 3) := by decide +kernel
theorem dX0_founderWeight_46 : decode cX0_founderWeight 46 = .ok (.aload_n 0, 1) := by decide +kernel
theorem dX0_founderWeight_47 : decode cX0_founderWeight 47 = .ok (.getfield 35, 3) := by decide +kernel
theorem dX0_founderWeight_50 : decode cX0_founderWeight 50 = .ok (.imul, 1) := by decide +kernel
theorem dX0_founderWeight_51 : decode cX0_founderWeight 51 = .ok (.ireturn, 1) := by decide +kernel
theorem dX0_passed_0 : decode cX0_passed 0 = .ok (.iload_n 1, 1) := by decide +kernel
theorem dX0_passed_1 : decode cX0_passed 1 = .ok (.ifCond .ne 11, 3) := by decide +kernel
theorem dX0_passed_4 : decode cX0_passed 4 = .ok (.iconst 2, 1) := by decide +kernel
theorem dX0_passed_5 : decode cX0_passed 5 = .ok (.iload_n 2, 1) := by decide +kernel
theorem dX0_passed_6 : decode cX0_passed 6 = .ok (.isub, 1) := by decide +kernel
theorem dX0_passed_7 : decode cX0_passed 7 = .ok (.iconst 2, 1) := by decide +kernel
theorem dX0_passed_8 : decode cX0_passed 8 = .ok (.iload_n 3, 1) := by decide +kernel
theorem dX0_passed_9 : decode cX0_passed 9 = .ok (.isub, 1) := by decide +kernel
theorem dX0_passed_10 : decode cX0_passed 10 = .ok (.imul, 1) := by decide +kernel
theorem dX0_passed_11 : decode cX0_passed 11 = .ok (.ireturn, 1) := by decide +kernel
theorem dX0_passed_12 : decode cX0_passed 12 = .ok (.iload_n 1, 1) := by decide +kernel
theorem dX0_passed_13 : decode cX0_passed 13 = .ok (.iconst 1, 1) := by decide +kernel
theorem dX0_passed_14 : decode cX0_passed 14 = .ok (.if_icmp .ne 17, 3) := by decide +kernel
theorem dX0_passed_17 : decode cX0_passed 17 = .ok (.iload_n 2, 1) := by decide +kernel
theorem dX0_passed_18 : decode cX0_passed 18 = .ok (.iconst 2, 1) := by decide +kernel
theorem dX0_passed_19 : decode cX0_passed 19 = .ok (.iload_n 3, 1) := by decide +kernel
theorem dX0_passed_20 : decode cX0_passed 20 = .ok (.isub, 1) := by decide +kernel
theorem dX0_passed_21 : decode cX0_passed 21 = .ok (.imul, 1) := by decide +kernel
theorem dX0_passed_22 : decode cX0_passed 22 = .ok (.iconst 2, 1) := by decide +kernel
theorem dX0_passed_23 : decode cX0_passed 23 = .ok (.iload_n 2, 1) := by decide +kernel
theorem dX0_passed_24 : decode cX0_passed 24 = .ok (.isub, 1) := by decide +kernel
theorem dX0_passed_25 : decode cX0_passed 25 = .ok (.iload_n 3, 1) := by decide +kernel
theorem dX0_passed_26 : decode cX0_passed 26 = .ok (.imul, 1) := by decide +kernel
theorem dX0_passed_27 : decode cX0_passed 27 = .ok (.iadd, 1) := by decide +kernel
theorem dX0_passed_28 : decode cX0_passed 28 = .ok (.goto 6, 3) := by decide +kernel
theorem dX0_passed_31 : decode cX0_passed 31 = .ok (.iload_n 2, 1) := by decide +kernel
theorem dX0_passed_32 : decode cX0_passed 32 = .ok (.iload_n 3, 1) := by decide +kernel
theorem dX0_passed_33 : decode cX0_passed 33 = .ok (.imul, 1) := by decide +kernel
theorem dX0_passed_34 : decode cX0_passed 34 = .ok (.ireturn, 1) := by decide +kernel
theorem dX0_easiest_0 : decode cX0_easiest 0 = .ok (.iconst (-1), 1) := by decide +kernel
theorem dX0_easiest_1 : decode cX0_easiest 1 = .ok (.istore_n 2, 1) := by decide +kernel
theorem dX0_easiest_2 : decode cX0_easiest 2 = .ok (.bipush 100, 2) := by decide +kernel
theorem dX0_easiest_4 : decode cX0_easiest 4 = .ok (.istore_n 3, 1) := by decide +kernel
theorem dX0_easiest_5 : decode cX0_easiest 5 = .ok (.iconst 0, 1) := by decide +kernel
theorem dX0_easiest_6 : decode cX0_easiest 6 = .ok (.istore 4, 2) := by decide +kernel
theorem dX0_easiest_8 : decode cX0_easiest 8 = .ok (.iload 4, 2) := by decide +kernel
theorem dX0_easiest_10 : decode cX0_easiest 10 = .ok (.aload_n 0, 1) := by decide +kernel
theorem dX0_easiest_11 : decode cX0_easiest 11 = .ok (.getfield 39, 3) := by decide +kernel
theorem dX0_easiest_14 : decode cX0_easiest 14 = .ok (.if_icmp .ge 47, 3) := by decide +kernel
theorem dX0_easiest_17 : decode cX0_easiest 17 = .ok (.iload_n 1, 1) := by decide +kernel
theorem dX0_easiest_18 : decode cX0_easiest 18 = .ok (.iload 4, 2) := by decide +kernel
theorem dX0_easiest_20 : decode cX0_easiest 20 = .ok (.ishr, 1) := by decide +kernel
theorem dX0_easiest_21 : decode cX0_easiest 21 = .ok (.iconst 1, 1) := by decide +kernel
theorem dX0_easiest_22 : decode cX0_easiest 22 = .ok (.iand, 1) := by decide +kernel
theorem dX0_easiest_23 : decode cX0_easiest 23 = .ok (.iconst 1, 1) := by decide +kernel
theorem dX0_easiest_24 : decode cX0_easiest 24 = .ok (.if_icmp .ne 31, 3) := by decide +kernel
theorem dX0_easiest_27 : decode cX0_easiest 27 = .ok (.aload_n 0, 1) := by decide +kernel
theorem dX0_easiest_28 : decode cX0_easiest 28 = .ok (.iload 4, 2) := by decide +kernel
theorem dX0_easiest_30 : decode cX0_easiest 30 = .ok (.invokevirtual 88, 3) := by decide +kernel
theorem dX0_easiest_33 : decode cX0_easiest 33 = .ok (.istore 5, 2) := by decide +kernel
theorem dX0_easiest_35 : decode cX0_easiest 35 = .ok (.aload_n 0, 1) := by decide +kernel
theorem dX0_easiest_36 : decode cX0_easiest 36 = .ok (.iload 5, 2) := by decide +kernel
theorem dX0_easiest_38 : decode cX0_easiest 38 = .ok (.invokevirtual 71, 3) := by decide +kernel
theorem dX0_easiest_41 : decode cX0_easiest 41 = .ok (.istore 6, 2) := by decide +kernel
theorem dX0_easiest_43 : decode cX0_easiest 43 = .ok (.iload 6, 2) := by decide +kernel
theorem dX0_easiest_45 : decode cX0_easiest 45 = .ok (.iload_n 3, 1) := by decide +kernel
theorem dX0_easiest_46 : decode cX0_easiest 46 = .ok (.if_icmp .ge 9, 3) := by decide +kernel
theorem dX0_easiest_49 : decode cX0_easiest 49 = .ok (.iload 6, 2) := by decide +kernel
theorem dX0_easiest_51 : decode cX0_easiest 51 = .ok (.istore_n 3, 1) := by decide +kernel
theorem dX0_easiest_52 : decode cX0_easiest 52 = .ok (.iload 4, 2) := by decide +kernel
theorem dX0_easiest_54 : decode cX0_easiest 54 = .ok (.istore_n 2, 1) := by decide +kernel
theorem dX0_easiest_55 : decode cX0_easiest 55 = .ok (.iinc 4 1, 3) := by decide +kernel
theorem dX0_easiest_58 : decode cX0_easiest 58 = .ok (.goto (-50), 3) := by decide +kernel
theorem dX0_easiest_61 : decode cX0_easiest 61 = .ok (.iload_n 2, 1) := by decide +kernel
theorem dX0_easiest_62 : decode cX0_easiest 62 = .ok (.ireturn, 1) := by decide +kernel
theorem dX0_around_0 : decode cX0_around 0 = .ok (.iconst 0, 1) := by decide +kernel
theorem dX0_around_1 : decode cX0_around 1 = .ok (.istore_n 2, 1) := by decide +kernel
theorem dX0_around_2 : decode cX0_around 2 = .ok (.iconst 0, 1) := by decide +kernel
theorem dX0_around_3 : decode cX0_around 3 = .ok (.istore_n 3, 1) := by decide +kernel
theorem dX0_around_4 : decode cX0_around 4 = .ok (.iload_n 3, 1) := by decide +kernel
theorem dX0_around_5 : decode cX0_around 5 = .ok (.aload_n 0, 1) := by decide +kernel
theorem dX0_around_6 : decode cX0_around 6 = .ok (.getfield 65, 3) := by decide +kernel
theorem dX0_around_9 : decode cX0_around 9 = .ok (.if_icmp .ge 32, 3) := by decide +kernel
theorem dX0_around_12 : decode cX0_around 12 = .ok (.aload_n 0, 1) := by decide +kernel
theorem dX0_around_13 : decode cX0_around 13 = .ok (.getfield 22, 3) := by decide +kernel
theorem dX0_around_16 : decode cX0_around 16 = .ok (.iload_n 3, 1) := by decide +kernel
theorem dX0_around_17 : decode cX0_around 17 = .ok (.iaload, 1) := by decide +kernel
theorem dX0_around_18 : decode cX0_around 18 = .ok (.iload_n 1, 1) := by decide +kernel
theorem dX0_around_19 : decode cX0_around 19 = .ok (.ishr, 1) := by decide +kernel
theorem dX0_around_20 : decode cX0_around 20 = .ok (.iconst 1, 1) := by decide +kernel
theorem dX0_around_21 : decode cX0_around 21 = .ok (.iand, 1) := by decide +kernel
theorem dX0_around_22 : decode cX0_around 22 = .ok (.iconst 1, 1) := by decide +kernel
theorem dX0_around_23 : decode cX0_around 23 = .ok (.if_icmp .ne 12, 3) := by decide +kernel
theorem dX0_around_26 : decode cX0_around 26 = .ok (.iload_n 2, 1) := by decide +kernel
theorem dX0_around_27 : decode cX0_around 27 = .ok (.aload_n 0, 1) := by decide +kernel
theorem dX0_around_28 : decode cX0_around 28 = .ok (.getfield 22, 3) := by decide +kernel
theorem dX0_around_31 : decode cX0_around 31 = .ok (.iload_n 3, 1) := by decide +kernel
theorem dX0_around_32 : decode cX0_around 32 = .ok (.iaload, 1) := by decide +kernel
theorem dX0_around_33 : decode cX0_around 33 = .ok (.ior, 1) := by decide +kernel
theorem dX0_around_34 : decode cX0_around 34 = .ok (.istore_n 2, 1) := by decide +kernel
theorem dX0_around_35 : decode cX0_around 35 = .ok (.iinc 3 1, 3) := by decide +kernel
theorem dX0_around_38 : decode cX0_around 38 = .ok (.goto (-34), 3) := by decide +kernel
theorem dX0_around_41 : decode cX0_around 41 = .ok (.iload_n 2, 1) := by decide +kernel
theorem dX0_around_42 : decode cX0_around 42 = .ok (.iconst 1, 1) := by decide +kernel
theorem dX0_around_43 : decode cX0_around 43 = .ok (.iload_n 1, 1) := by decide +kernel
theorem dX0_around_44 : decode cX0_around 44 = .ok (.ishl, 1) := by decide +kernel
theorem dX0_around_45 : decode cX0_around 45 = .ok (.iconst (-1), 1) := by decide +kernel
theorem dX0_around_46 : decode cX0_around 46 = .ok (.ixor, 1) := by decide +kernel
theorem dX0_around_47 : decode cX0_around 47 = .ok (.iand, 1) := by decide +kernel
theorem dX0_around_48 : decode cX0_around 48 = .ok (.ireturn, 1) := by decide +kernel
theorem dX0_takeOut_0 : decode cX0_takeOut 0 = .ok (.aload_n 0, 1) := by decide +kernel
theorem dX0_takeOut_1 : decode cX0_takeOut 1 = .ok (.iload_n 1, 1) := by decide +kernel
theorem dX0_takeOut_2 : decode cX0_takeOut 2 = .ok (.invokevirtual 88, 3) := by decide +kernel
theorem dX0_takeOut_5 : decode cX0_takeOut 5 = .ok (.istore_n 2, 1) := by decide +kernel
theorem dX0_takeOut_6 : decode cX0_takeOut 6 = .ok (.aload_n 0, 1) := by decide +kernel
theorem dX0_takeOut_7 : decode cX0_takeOut 7 = .ok (.getfield 65, 3) := by decide +kernel
theorem dX0_takeOut_10 : decode cX0_takeOut 10 = .ok (.istore_n 3, 1) := by decide +kernel
theorem dX0_takeOut_11 : decode cX0_takeOut 11 = .ok (.aload_n 0, 1) := by decide +kernel
theorem dX0_takeOut_12 : decode cX0_takeOut 12 = .ok (.iload_n 2, 1) := by decide +kernel
theorem dX0_takeOut_13 : decode cX0_takeOut 13 = .ok (.invokevirtual 77, 3) := by decide +kernel
theorem dX0_takeOut_16 : decode cX0_takeOut 16 = .ok (.istore 4, 2) := by decide +kernel
theorem dX0_takeOut_18 : decode cX0_takeOut 18 = .ok (.aload_n 0, 1) := by decide +kernel
theorem dX0_takeOut_19 : decode cX0_takeOut 19 = .ok (.iload_n 2, 1) := by decide +kernel
theorem dX0_takeOut_20 : decode cX0_takeOut 20 = .ok (.invokevirtual 71, 3) := by decide +kernel
theorem dX0_takeOut_23 : decode cX0_takeOut 23 = .ok (.istore 5, 2) := by decide +kernel
theorem dX0_takeOut_25 : decode cX0_takeOut 25 = .ok (.aload_n 0, 1) := by decide +kernel
theorem dX0_takeOut_26 : decode cX0_takeOut 26 = .ok (.iload 5, 2) := by decide +kernel
theorem dX0_takeOut_28 : decode cX0_takeOut 28 = .ok (.invokevirtual 74, 3) := by decide +kernel
theorem dX0_takeOut_31 : decode cX0_takeOut 31 = .ok (.istore 6, 2) := by decide +kernel
theorem dX0_takeOut_33 : decode cX0_takeOut 33 = .ok (.iconst 0, 1) := by decide +kernel
theorem dX0_takeOut_34 : decode cX0_takeOut 34 = .ok (.istore 7, 2) := by decide +kernel
theorem dX0_takeOut_36 : decode cX0_takeOut 36 = .ok (.iload 7, 2) := by decide +kernel
theorem dX0_takeOut_38 : decode cX0_takeOut 38 = .ok (.iload 6, 2) := by decide +kernel
theorem dX0_takeOut_40 : decode cX0_takeOut 40 = .ok (.if_icmp .ge 74, 3) := by decide +kernel
theorem dX0_takeOut_43 : decode cX0_takeOut 43 = .ok (.aload_n 0, 1) := by decide +kernel
theorem dX0_takeOut_44 : decode cX0_takeOut 44 = .ok (.iload_n 2, 1) := by decide +kernel
theorem dX0_takeOut_45 : decode cX0_takeOut 45 = .ok (.iload 7, 2) := by decide +kernel
theorem dX0_takeOut_47 : decode cX0_takeOut 47 = .ok (.invokevirtual 80, 3) := by decide +kernel
theorem dX0_takeOut_50 : decode cX0_takeOut 50 = .ok (.lconst 0, 1) := by decide +kernel
theorem dX0_takeOut_51 : decode cX0_takeOut 51 = .ok (.lstore 8, 2) := by decide +kernel
theorem dX0_takeOut_53 : decode cX0_takeOut 53 = .ok (.iconst 0, 1) := by decide +kernel
theorem dX0_takeOut_54 : decode cX0_takeOut 54 = .ok (.istore 10, 2) := by decide +kernel
theorem dX0_takeOut_56 : decode cX0_takeOut 56 = .ok (.iload 10, 2) := by decide +kernel
theorem dX0_takeOut_58 : decode cX0_takeOut 58 = .ok (.iconst 3, 1) := by decide +kernel
theorem dX0_takeOut_59 : decode cX0_takeOut 59 = .ok (.if_icmp .ge 32, 3) := by decide +kernel
theorem dX0_takeOut_62 : decode cX0_takeOut 62 = .ok (.aload_n 0, 1) := by decide +kernel
theorem dX0_takeOut_63 : decode cX0_takeOut 63 = .ok (.getfield 32, 3) := by decide +kernel
theorem dX0_takeOut_66 : decode cX0_takeOut 66 = .ok (.iload_n 1, 1) := by decide +kernel
theorem dX0_takeOut_67 : decode cX0_takeOut 67 = .ok (.iload 10, 2) := by decide +kernel
theorem dX0_takeOut_69 : decode cX0_takeOut 69 = .ok (.iastore, 1) := by decide +kernel
theorem dX0_takeOut_70 : decode cX0_takeOut 70 = .ok (.aload_n 0, 1) := by decide +kernel
theorem dX0_takeOut_71 : decode cX0_takeOut 71 = .ok (.iload_n 1, 1) := by decide +kernel
theorem dX0_takeOut_72 : decode cX0_takeOut 72 = .ok (.iload_n 3, 1) := by decide +kernel
theorem dX0_takeOut_73 : decode cX0_takeOut 73 = .ok (.invokevirtual 94, 3) := by decide +kernel
theorem dX0_takeOut_76 : decode cX0_takeOut 76 = .ok (.lstore 11, 2) := by decide +kernel
theorem dX0_takeOut_78 : decode cX0_takeOut 78 = .ok (.lload 8, 2) := by decide +kernel
theorem dX0_takeOut_80 : decode cX0_takeOut 80 = .ok (.lload 11, 2) := by decide +kernel
theorem dX0_takeOut_82 : decode cX0_takeOut 82 = .ok (.ladd, 1) := by decide +kernel
theorem dX0_takeOut_83 : decode cX0_takeOut 83 = .ok (.lstore 8, 2) := by decide +kernel
theorem dX0_takeOut_85 : decode cX0_takeOut 85 = .ok (.iinc 10 1, 3) := by decide +kernel
theorem dX0_takeOut_88 : decode cX0_takeOut 88 = .ok (.goto (-32), 3) := by decide +kernel
theorem dX0_takeOut_91 : decode cX0_takeOut 91 = .ok (.aload_n 0, 1) := by decide +kernel
theorem dX0_takeOut_92 : decode cX0_takeOut 92 = .ok (.getfield 28, 3) := by decide +kernel
theorem dX0_takeOut_95 : decode cX0_takeOut 95 = .ok (.aload_n 0, 1) := by decide +kernel
theorem dX0_takeOut_96 : decode cX0_takeOut 96 = .ok (.getfield 25, 3) := by decide +kernel
theorem dX0_takeOut_99 : decode cX0_takeOut 99 = .ok (.iload 4, 2) := by decide +kernel
theorem dX0_takeOut_101 : decode cX0_takeOut 101 = .ok (.iaload, 1) := by decide +kernel
theorem dX0_takeOut_102 : decode cX0_takeOut 102 = .ok (.iload 7, 2) := by decide +kernel
theorem dX0_takeOut_104 : decode cX0_takeOut 104 = .ok (.iadd, 1) := by decide +kernel
theorem dX0_takeOut_105 : decode cX0_takeOut 105 = .ok (.lload 8, 2) := by decide +kernel
theorem dX0_takeOut_107 : decode cX0_takeOut 107 = .ok (.lastore, 1) := by decide +kernel
theorem dX0_takeOut_108 : decode cX0_takeOut 108 = .ok (.iinc 7 1, 3) := by decide +kernel
theorem dX0_takeOut_111 : decode cX0_takeOut 111 = .ok (.goto (-75), 3) := by decide +kernel
theorem dX0_takeOut_114 : decode cX0_takeOut 114 = .ok (.iconst 0, 1) := by decide +kernel
theorem dX0_takeOut_115 : decode cX0_takeOut 115 = .ok (.istore 7, 2) := by decide +kernel
theorem dX0_takeOut_117 : decode cX0_takeOut 117 = .ok (.iload 7, 2) := by decide +kernel
theorem dX0_takeOut_119 : decode cX0_takeOut 119 = .ok (.iload_n 3, 1) := by decide +kernel
theorem dX0_takeOut_120 : decode cX0_takeOut 120 = .ok (.if_icmp .ge 45, 3) := by decide +kernel
theorem dX0_takeOut_123 : decode cX0_takeOut 123 = .ok (.aload_n 0, 1) := by decide +kernel
theorem dX0_takeOut_124 : decode cX0_takeOut 124 = .ok (.getfield 22, 3) := by decide +kernel
theorem dX0_takeOut_127 : decode cX0_takeOut 127 = .ok (.iload 7, 2) := by decide +kernel
theorem dX0_takeOut_129 : decode cX0_takeOut 129 = .ok (.iaload, 1) := by decide +kernel
theorem dX0_takeOut_130 : decode cX0_takeOut 130 = .ok (.iload_n 1, 1) := by decide +kernel
theorem dX0_takeOut_131 : decode cX0_takeOut 131 = .ok (.ishr, 1) := by decide +kernel
theorem dX0_takeOut_132 : decode cX0_takeOut 132 = .ok (.iconst 1, 1) := by decide +kernel
theorem dX0_takeOut_133 : decode cX0_takeOut 133 = .ok (.iand, 1) := by decide +kernel
theorem dX0_takeOut_134 : decode cX0_takeOut 134 = .ok (.iconst 1, 1) := by decide +kernel
theorem dX0_takeOut_135 : decode cX0_takeOut 135 = .ok (.if_icmp .ne 24, 3) := by decide +kernel
theorem dX0_takeOut_138 : decode cX0_takeOut 138 = .ok (.aload_n 0, 1) := by decide +kernel
theorem dX0_takeOut_139 : decode cX0_takeOut 139 = .ok (.getfield 22, 3) := by decide +kernel
theorem dX0_takeOut_142 : decode cX0_takeOut 142 = .ok (.iload 7, 2) := by decide +kernel
theorem dX0_takeOut_144 : decode cX0_takeOut 144 = .ok (.iconst 0, 1) := by decide +kernel
theorem dX0_takeOut_145 : decode cX0_takeOut 145 = .ok (.iastore, 1) := by decide +kernel
theorem dX0_takeOut_146 : decode cX0_takeOut 146 = .ok (.aload_n 0, 1) := by decide +kernel
theorem dX0_takeOut_147 : decode cX0_takeOut 147 = .ok (.getfield 28, 3) := by decide +kernel
theorem dX0_takeOut_150 : decode cX0_takeOut 150 = .ok (.aload_n 0, 1) := by decide +kernel
theorem dX0_takeOut_151 : decode cX0_takeOut 151 = .ok (.getfield 25, 3) := by decide +kernel
theorem dX0_takeOut_154 : decode cX0_takeOut 154 = .ok (.iload 7, 2) := by decide +kernel
theorem dX0_takeOut_156 : decode cX0_takeOut 156 = .ok (.iaload, 1) := by decide +kernel
theorem dX0_takeOut_157 : decode cX0_takeOut 157 = .ok (.lconst 1, 1) := by decide +kernel
theorem dX0_takeOut_158 : decode cX0_takeOut 158 = .ok (.lastore, 1) := by decide +kernel
theorem dX0_takeOut_159 : decode cX0_takeOut 159 = .ok (.iinc 7 1, 3) := by decide +kernel
theorem dX0_takeOut_162 : decode cX0_takeOut 162 = .ok (.goto (-45), 3) := by decide +kernel
theorem dX0_takeOut_165 : decode cX0_takeOut 165 = .ok (.return_, 1) := by decide +kernel
theorem dX0_product_0 : decode cX0_product 0 = .ok (.lconst 1, 1) := by decide +kernel
theorem dX0_product_1 : decode cX0_product 1 = .ok (.lstore_n 3, 1) := by decide +kernel
theorem dX0_product_2 : decode cX0_product 2 = .ok (.iconst 0, 1) := by decide +kernel
theorem dX0_product_3 : decode cX0_product 3 = .ok (.istore 5, 2) := by decide +kernel
theorem dX0_product_5 : decode cX0_product 5 = .ok (.iload 5, 2) := by decide +kernel
theorem dX0_product_7 : decode cX0_product 7 = .ok (.iload_n 2, 1) := by decide +kernel
theorem dX0_product_8 : decode cX0_product 8 = .ok (.if_icmp .ge 55, 3) := by decide +kernel
theorem dX0_product_11 : decode cX0_product 11 = .ok (.aload_n 0, 1) := by decide +kernel
theorem dX0_product_12 : decode cX0_product 12 = .ok (.getfield 22, 3) := by decide +kernel
theorem dX0_product_15 : decode cX0_product 15 = .ok (.iload 5, 2) := by decide +kernel
theorem dX0_product_17 : decode cX0_product 17 = .ok (.iaload, 1) := by decide +kernel
theorem dX0_product_18 : decode cX0_product 18 = .ok (.iload_n 1, 1) := by decide +kernel
theorem dX0_product_19 : decode cX0_product 19 = .ok (.ishr, 1) := by decide +kernel
theorem dX0_product_20 : decode cX0_product 20 = .ok (.iconst 1, 1) := by decide +kernel
theorem dX0_product_21 : decode cX0_product 21 = .ok (.iand, 1) := by decide +kernel
theorem dX0_product_22 : decode cX0_product 22 = .ok (.iconst 1, 1) := by decide +kernel
theorem dX0_product_23 : decode cX0_product 23 = .ok (.if_icmp .ne 34, 3) := by decide +kernel
theorem dX0_product_26 : decode cX0_product 26 = .ok (.aload_n 0, 1) := by decide +kernel
theorem dX0_product_27 : decode cX0_product 27 = .ok (.aload_n 0, 1) := by decide +kernel
theorem dX0_product_28 : decode cX0_product 28 = .ok (.getfield 22, 3) := by decide +kernel
theorem dX0_product_31 : decode cX0_product 31 = .ok (.iload 5, 2) := by decide +kernel
theorem dX0_product_33 : decode cX0_product 33 = .ok (.iaload, 1) := by decide +kernel
theorem dX0_product_34 : decode cX0_product 34 = .ok (.invokevirtual 91, 3) := by decide +kernel
theorem dX0_product_37 : decode cX0_product 37 = .ok (.istore 6, 2) := by decide +kernel
theorem dX0_product_39 : decode cX0_product 39 = .ok (.lload_n 3, 1) := by decide +kernel
theorem dX0_product_40 : decode cX0_product 40 = .ok (.aload_n 0, 1) := by decide +kernel
theorem dX0_product_41 : decode cX0_product 41 = .ok (.getfield 28, 3) := by decide +kernel
theorem dX0_product_44 : decode cX0_product 44 = .ok (.aload_n 0, 1) := by decide +kernel
theorem dX0_product_45 : decode cX0_product 45 = .ok (.getfield 25, 3) := by decide +kernel
theorem dX0_product_48 : decode cX0_product 48 = .ok (.iload 5, 2) := by decide +kernel
theorem dX0_product_50 : decode cX0_product 50 = .ok (.iaload, 1) := by decide +kernel
theorem dX0_product_51 : decode cX0_product 51 = .ok (.iload 6, 2) := by decide +kernel
theorem dX0_product_53 : decode cX0_product 53 = .ok (.iadd, 1) := by decide +kernel
theorem dX0_product_54 : decode cX0_product 54 = .ok (.laload, 1) := by decide +kernel
theorem dX0_product_55 : decode cX0_product 55 = .ok (.lmul, 1) := by decide +kernel
theorem dX0_product_56 : decode cX0_product 56 = .ok (.lstore_n 3, 1) := by decide +kernel
theorem dX0_product_57 : decode cX0_product 57 = .ok (.iinc 5 1, 3) := by decide +kernel
theorem dX0_product_60 : decode cX0_product 60 = .ok (.goto (-55), 3) := by decide +kernel
theorem dX0_product_63 : decode cX0_product 63 = .ok (.lload_n 3, 1) := by decide +kernel
theorem dX0_product_64 : decode cX0_product 64 = .ok (.lreturn, 1) := by decide +kernel
theorem dX0_placeIn_0 : decode cX0_placeIn 0 = .ok (.iconst 0, 1) := by decide +kernel
theorem dX0_placeIn_1 : decode cX0_placeIn 1 = .ok (.istore_n 2, 1) := by decide +kernel
theorem dX0_placeIn_2 : decode cX0_placeIn 2 = .ok (.bipush 6, 2) := by decide +kernel
theorem dX0_placeIn_4 : decode cX0_placeIn 4 = .ok (.istore_n 3, 1) := by decide +kernel
theorem dX0_placeIn_5 : decode cX0_placeIn 5 = .ok (.iload_n 3, 1) := by decide +kernel
theorem dX0_placeIn_6 : decode cX0_placeIn 6 = .ok (.ifCond .lt 29, 3) := by decide +kernel
theorem dX0_placeIn_9 : decode cX0_placeIn 9 = .ok (.iload_n 1, 1) := by decide +kernel
theorem dX0_placeIn_10 : decode cX0_placeIn 10 = .ok (.iload_n 3, 1) := by decide +kernel
theorem dX0_placeIn_11 : decode cX0_placeIn 11 = .ok (.ishr, 1) := by decide +kernel
theorem dX0_placeIn_12 : decode cX0_placeIn 12 = .ok (.iconst 1, 1) := by decide +kernel
theorem dX0_placeIn_13 : decode cX0_placeIn 13 = .ok (.iand, 1) := by decide +kernel
theorem dX0_placeIn_14 : decode cX0_placeIn 14 = .ok (.iconst 1, 1) := by decide +kernel
theorem dX0_placeIn_15 : decode cX0_placeIn 15 = .ok (.if_icmp .ne 14, 3) := by decide +kernel
theorem dX0_placeIn_18 : decode cX0_placeIn 18 = .ok (.iload_n 2, 1) := by decide +kernel
theorem dX0_placeIn_19 : decode cX0_placeIn 19 = .ok (.iconst 3, 1) := by decide +kernel
theorem dX0_placeIn_20 : decode cX0_placeIn 20 = .ok (.imul, 1) := by decide +kernel
theorem dX0_placeIn_21 : decode cX0_placeIn 21 = .ok (.aload_n 0, 1) := by decide +kernel
theorem dX0_placeIn_22 : decode cX0_placeIn 22 = .ok (.getfield 32, 3) := by decide +kernel
theorem dX0_placeIn_25 : decode cX0_placeIn 25 = .ok (.iload_n 3, 1) := by decide +kernel
theorem dX0_placeIn_26 : decode cX0_placeIn 26 = .ok (.iaload, 1) := by decide +kernel
theorem dX0_placeIn_27 : decode cX0_placeIn 27 = .ok (.iadd, 1) := by decide +kernel
theorem dX0_placeIn_28 : decode cX0_placeIn 28 = .ok (.istore_n 2, 1) := by decide +kernel
theorem dX0_placeIn_29 : decode cX0_placeIn 29 = .ok (.iinc 3 (-1), 3) := by decide +kernel
theorem dX0_placeIn_32 : decode cX0_placeIn 32 = .ok (.goto (-27), 3) := by decide +kernel
theorem dX0_placeIn_35 : decode cX0_placeIn 35 = .ok (.iload_n 2, 1) := by decide +kernel
theorem dX0_placeIn_36 : decode cX0_placeIn 36 = .ok (.ireturn, 1) := by decide +kernel
theorem dX0_share_0 : decode cX0_share 0 = .ok (.aload_n 0, 1) := by decide +kernel
theorem dX0_share_1 : decode cX0_share 1 = .ok (.iload_n 1, 1) := by decide +kernel
theorem dX0_share_2 : decode cX0_share 2 = .ok (.invokevirtual 46, 3) := by decide +kernel
theorem dX0_share_5 : decode cX0_share 5 = .ok (.ifCond .ne 11, 3) := by decide +kernel
theorem dX0_share_8 : decode cX0_share 8 = .ok (.aload_n 0, 1) := by decide +kernel
theorem dX0_share_9 : decode cX0_share 9 = .ok (.iload_n 2, 1) := by decide +kernel
theorem dX0_share_10 : decode cX0_share 10 = .ok (.invokevirtual 50, 3) := by decide +kernel
theorem dX0_share_13 : decode cX0_share 13 = .ok (.ifCond .eq 5, 3) := by decide +kernel
theorem dX0_share_16 : decode cX0_share 16 = .ok (.lconst 0, 1) := by decide +kernel
theorem dX0_share_17 : decode cX0_share 17 = .ok (.lreturn, 1) := by decide +kernel
theorem dX0_share_18 : decode cX0_share 18 = .ok (.aload_n 0, 1) := by decide +kernel
theorem dX0_share_19 : decode cX0_share 19 = .ok (.invokevirtual 108, 3) := by decide +kernel
theorem dX0_share_22 : decode cX0_share 22 = .ok (.aload_n 0, 1) := by decide +kernel
theorem dX0_share_23 : decode cX0_share 23 = .ok (.getfield 19, 3) := by decide +kernel
theorem dX0_share_26 : decode cX0_share 26 = .ok (.iload_n 1, 1) := by decide +kernel
theorem dX0_share_27 : decode cX0_share 27 = .ok (.iconst 1, 1) := by decide +kernel
theorem dX0_share_28 : decode cX0_share 28 = .ok (.iload_n 2, 1) := by decide +kernel
theorem dX0_share_29 : decode cX0_share 29 = .ok (.ishl, 1) := by decide +kernel
theorem dX0_share_30 : decode cX0_share 30 = .ok (.iastore, 1) := by decide +kernel
theorem dX0_share_31 : decode cX0_share 31 = .ok (.aload_n 0, 1) := by decide +kernel
theorem dX0_share_32 : decode cX0_share 32 = .ok (.invokevirtual 111, 3) := by decide +kernel
theorem dX0_share_35 : decode cX0_share 35 = .ok (.lreturn, 1) := by decide +kernel
theorem dX0_shareOfTwo_0 : decode cX0_shareOfTwo 0 = .ok (.aload_n 0, 1) := by decide +kernel
theorem dX0_shareOfTwo_1 : decode cX0_shareOfTwo 1 = .ok (.iload_n 1, 1) := by decide +kernel
theorem dX0_shareOfTwo_2 : decode cX0_shareOfTwo 2 = .ok (.invokevirtual 46, 3) := by decide +kernel
theorem dX0_shareOfTwo_5 : decode cX0_shareOfTwo 5 = .ok (.ifCond .ne 28, 3) := by decide +kernel
theorem dX0_shareOfTwo_8 : decode cX0_shareOfTwo 8 = .ok (.aload_n 0, 1) := by decide +kernel
theorem dX0_shareOfTwo_9 : decode cX0_shareOfTwo 9 = .ok (.iload_n 2, 1) := by decide +kernel
theorem dX0_shareOfTwo_10 : decode cX0_shareOfTwo 10 = .ok (.invokevirtual 50, 3) := by decide +kernel
theorem dX0_shareOfTwo_13 : decode cX0_shareOfTwo 13 = .ok (.ifCond .ne 20, 3) := by decide +kernel
theorem dX0_shareOfTwo_16 : decode cX0_shareOfTwo 16 = .ok (.aload_n 0, 1) := by decide +kernel
theorem dX0_shareOfTwo_17 : decode cX0_shareOfTwo 17 = .ok (.iload_n 3, 1) := by decide +kernel
theorem dX0_shareOfTwo_18 : decode cX0_shareOfTwo 18 = .ok (.invokevirtual 46, 3) := by decide +kernel
theorem dX0_shareOfTwo_21 : decode cX0_shareOfTwo 21 = .ok (.ifCond .ne 12, 3) := by decide +kernel
theorem dX0_shareOfTwo_24 : decode cX0_shareOfTwo 24 = .ok (.aload_n 0, 1) := by decide +kernel
theorem dX0_shareOfTwo_25 : decode cX0_shareOfTwo 25 = .ok (.iload 4, 2) := by decide +kernel
theorem dX0_shareOfTwo_27 : decode cX0_shareOfTwo 27 = .ok (.invokevirtual 50, 3) := by decide +kernel
theorem dX0_shareOfTwo_30 : decode cX0_shareOfTwo 30 = .ok (.ifCond .eq 5, 3) := by decide +kernel
theorem dX0_shareOfTwo_33 : decode cX0_shareOfTwo 33 = .ok (.lconst 0, 1) := by decide +kernel
theorem dX0_shareOfTwo_34 : decode cX0_shareOfTwo 34 = .ok (.lreturn, 1) := by decide +kernel
theorem dX0_shareOfTwo_35 : decode cX0_shareOfTwo 35 = .ok (.aload_n 0, 1) := by decide +kernel
theorem dX0_shareOfTwo_36 : decode cX0_shareOfTwo 36 = .ok (.invokevirtual 108, 3) := by decide +kernel
theorem dX0_shareOfTwo_39 : decode cX0_shareOfTwo 39 = .ok (.aload_n 0, 1) := by decide +kernel
theorem dX0_shareOfTwo_40 : decode cX0_shareOfTwo 40 = .ok (.getfield 19, 3) := by decide +kernel
theorem dX0_shareOfTwo_43 : decode cX0_shareOfTwo 43 = .ok (.iload_n 1, 1) := by decide +kernel
theorem dX0_shareOfTwo_44 : decode cX0_shareOfTwo 44 = .ok (.iconst 1, 1) := by decide +kernel
theorem dX0_shareOfTwo_45 : decode cX0_shareOfTwo 45 = .ok (.iload_n 2, 1) := by decide +kernel
theorem dX0_shareOfTwo_46 : decode cX0_shareOfTwo 46 = .ok (.ishl, 1) := by decide +kernel
theorem dX0_shareOfTwo_47 : decode cX0_shareOfTwo 47 = .ok (.iastore, 1) := by decide +kernel
theorem dX0_shareOfTwo_48 : decode cX0_shareOfTwo 48 = .ok (.aload_n 0, 1) := by decide +kernel
theorem dX0_shareOfTwo_49 : decode cX0_shareOfTwo 49 = .ok (.getfield 19, 3) := by decide +kernel
theorem dX0_shareOfTwo_52 : decode cX0_shareOfTwo 52 = .ok (.iload_n 3, 1) := by decide +kernel
theorem dX0_shareOfTwo_53 : decode cX0_shareOfTwo 53 = .ok (.aload_n 0, 1) := by decide +kernel
theorem dX0_shareOfTwo_54 : decode cX0_shareOfTwo 54 = .ok (.getfield 19, 3) := by decide +kernel
theorem dX0_shareOfTwo_57 : decode cX0_shareOfTwo 57 = .ok (.iload_n 3, 1) := by decide +kernel
theorem dX0_shareOfTwo_58 : decode cX0_shareOfTwo 58 = .ok (.iaload, 1) := by decide +kernel
theorem dX0_shareOfTwo_59 : decode cX0_shareOfTwo 59 = .ok (.iconst 1, 1) := by decide +kernel
theorem dX0_shareOfTwo_60 : decode cX0_shareOfTwo 60 = .ok (.iload 4, 2) := by decide +kernel
theorem dX0_shareOfTwo_62 : decode cX0_shareOfTwo 62 = .ok (.ishl, 1) := by decide +kernel
theorem dX0_shareOfTwo_63 : decode cX0_shareOfTwo 63 = .ok (.iand, 1) := by decide +kernel
theorem dX0_shareOfTwo_64 : decode cX0_shareOfTwo 64 = .ok (.iastore, 1) := by decide +kernel
theorem dX0_shareOfTwo_65 : decode cX0_shareOfTwo 65 = .ok (.aload_n 0, 1) := by decide +kernel
theorem dX0_shareOfTwo_66 : decode cX0_shareOfTwo 66 = .ok (.invokevirtual 111, 3) := by decide +kernel
theorem dX0_shareOfTwo_69 : decode cX0_shareOfTwo 69 = .ok (.lreturn, 1) := by decide +kernel
theorem dX0_copies_0 : decode cX0_copies 0 = .ok (.aload_n 0, 1) := by decide +kernel
theorem dX0_copies_1 : decode cX0_copies 1 = .ok (.iload_n 1, 1) := by decide +kernel
theorem dX0_copies_2 : decode cX0_copies 2 = .ok (.invokevirtual 46, 3) := by decide +kernel
theorem dX0_copies_5 : decode cX0_copies 5 = .ok (.ifCond .eq 5, 3) := by decide +kernel
theorem dX0_copies_8 : decode cX0_copies 8 = .ok (.lconst 0, 1) := by decide +kernel
theorem dX0_copies_9 : decode cX0_copies 9 = .ok (.lreturn, 1) := by decide +kernel
theorem dX0_copies_10 : decode cX0_copies 10 = .ok (.aload_n 0, 1) := by decide +kernel
theorem dX0_copies_11 : decode cX0_copies 11 = .ok (.iload_n 1, 1) := by decide +kernel
theorem dX0_copies_12 : decode cX0_copies 12 = .ok (.iconst 1, 1) := by decide +kernel
theorem dX0_copies_13 : decode cX0_copies 13 = .ok (.invokevirtual 115, 3) := by decide +kernel
theorem dX0_copies_16 : decode cX0_copies 16 = .ok (.lstore_n 2, 1) := by decide +kernel
theorem dX0_copies_17 : decode cX0_copies 17 = .ok (.aload_n 0, 1) := by decide +kernel
theorem dX0_copies_18 : decode cX0_copies 18 = .ok (.iload_n 1, 1) := by decide +kernel
theorem dX0_copies_19 : decode cX0_copies 19 = .ok (.iconst 2, 1) := by decide +kernel
theorem dX0_copies_20 : decode cX0_copies 20 = .ok (.invokevirtual 115, 3) := by decide +kernel
theorem dX0_copies_23 : decode cX0_copies 23 = .ok (.lstore 4, 2) := by decide +kernel
theorem dX0_copies_25 : decode cX0_copies 25 = .ok (.lload_n 2, 1) := by decide +kernel
theorem dX0_copies_26 : decode cX0_copies 26 = .ok (.ldc2_w 118, 3) := by decide +kernel
theorem dX0_copies_29 : decode cX0_copies 29 = .ok (.lload 4, 2) := by decide +kernel
theorem dX0_copies_31 : decode cX0_copies 31 = .ok (.lmul, 1) := by decide +kernel
theorem dX0_copies_32 : decode cX0_copies 32 = .ok (.ladd, 1) := by decide +kernel
theorem dX0_copies_33 : decode cX0_copies 33 = .ok (.lreturn, 1) := by decide +kernel
theorem dX0_possible_0 : decode cX0_possible 0 = .ok (.aload_n 0, 1) := by decide +kernel
theorem dX0_possible_1 : decode cX0_possible 1 = .ok (.iload_n 1, 1) := by decide +kernel
theorem dX0_possible_2 : decode cX0_possible 2 = .ok (.invokevirtual 46, 3) := by decide +kernel
theorem dX0_possible_5 : decode cX0_possible 5 = .ok (.ifCond .eq 5, 3) := by decide +kernel
theorem dX0_possible_8 : decode cX0_possible 8 = .ok (.iconst 0, 1) := by decide +kernel
theorem dX0_possible_9 : decode cX0_possible 9 = .ok (.ireturn, 1) := by decide +kernel
theorem dX0_possible_10 : decode cX0_possible 10 = .ok (.iconst 0, 1) := by decide +kernel
theorem dX0_possible_11 : decode cX0_possible 11 = .ok (.istore_n 2, 1) := by decide +kernel
theorem dX0_possible_12 : decode cX0_possible 12 = .ok (.iconst 0, 1) := by decide +kernel
theorem dX0_possible_13 : decode cX0_possible 13 = .ok (.istore_n 3, 1) := by decide +kernel
theorem dX0_possible_14 : decode cX0_possible 14 = .ok (.iload_n 3, 1) := by decide +kernel
theorem dX0_possible_15 : decode cX0_possible 15 = .ok (.iconst 3, 1) := by decide +kernel
theorem dX0_possible_16 : decode cX0_possible 16 = .ok (.if_icmp .ge 46, 3) := by decide +kernel
theorem dX0_possible_19 : decode cX0_possible 19 = .ok (.aload_n 0, 1) := by decide +kernel
theorem dX0_possible_20 : decode cX0_possible 20 = .ok (.invokevirtual 108, 3) := by decide +kernel
theorem dX0_possible_23 : decode cX0_possible 23 = .ok (.aload_n 0, 1) := by decide +kernel
theorem dX0_possible_24 : decode cX0_possible 24 = .ok (.iconst 1, 1) := by decide +kernel
theorem dX0_possible_25 : decode cX0_possible 25 = .ok (.putfield 61, 3) := by decide +kernel
theorem dX0_possible_28 : decode cX0_possible 28 = .ok (.aload_n 0, 1) := by decide +kernel
theorem dX0_possible_29 : decode cX0_possible 29 = .ok (.getfield 19, 3) := by decide +kernel
theorem dX0_possible_32 : decode cX0_possible 32 = .ok (.iload_n 1, 1) := by decide +kernel
theorem dX0_possible_33 : decode cX0_possible 33 = .ok (.iconst 1, 1) := by decide +kernel
theorem dX0_possible_34 : decode cX0_possible 34 = .ok (.iload_n 3, 1) := by decide +kernel
theorem dX0_possible_35 : decode cX0_possible 35 = .ok (.ishl, 1) := by decide +kernel
theorem dX0_possible_36 : decode cX0_possible 36 = .ok (.iastore, 1) := by decide +kernel
theorem dX0_possible_37 : decode cX0_possible 37 = .ok (.aload_n 0, 1) := by decide +kernel
theorem dX0_possible_38 : decode cX0_possible 38 = .ok (.invokevirtual 111, 3) := by decide +kernel
theorem dX0_possible_41 : decode cX0_possible 41 = .ok (.lstore 4, 2) := by decide +kernel
theorem dX0_possible_43 : decode cX0_possible 43 = .ok (.lload 4, 2) := by decide +kernel
theorem dX0_possible_45 : decode cX0_possible 45 = .ok (.lconst 0, 1) := by decide +kernel
theorem dX0_possible_46 : decode cX0_possible 46 = .ok (.lcmp, 1) := by decide +kernel
theorem dX0_possible_47 : decode cX0_possible 47 = .ok (.ifCond .eq 9, 3) := by decide +kernel
theorem dX0_possible_50 : decode cX0_possible 50 = .ok (.iload_n 2, 1) := by decide +kernel
theorem dX0_possible_51 : decode cX0_possible 51 = .ok (.iconst 1, 1) := by decide +kernel
theorem dX0_possible_52 : decode cX0_possible 52 = .ok (.iload_n 3, 1) := by decide +kernel
theorem dX0_possible_53 : decode cX0_possible 53 = .ok (.ishl, 1) := by decide +kernel
theorem dX0_possible_54 : decode cX0_possible 54 = .ok (.ior, 1) := by decide +kernel
theorem dX0_possible_55 : decode cX0_possible 55 = .ok (.istore_n 2, 1) := by decide +kernel
theorem dX0_possible_56 : decode cX0_possible 56 = .ok (.iinc 3 1, 3) := by decide +kernel
theorem dX0_possible_59 : decode cX0_possible 59 = .ok (.goto (-45), 3) := by decide +kernel
theorem dX0_possible_62 : decode cX0_possible 62 = .ok (.iload_n 2, 1) := by decide +kernel
theorem dX0_possible_63 : decode cX0_possible 63 = .ok (.ireturn, 1) := by decide +kernel
theorem dX0_before_0 : decode cX0_before 0 = .ok (.aload_n 0, 1) := by decide +kernel
theorem dX0_before_1 : decode cX0_before 1 = .ok (.iload_n 1, 1) := by decide +kernel
theorem dX0_before_2 : decode cX0_before 2 = .ok (.invokevirtual 46, 3) := by decide +kernel
theorem dX0_before_5 : decode cX0_before 5 = .ok (.ifCond .ne 11, 3) := by decide +kernel
theorem dX0_before_8 : decode cX0_before 8 = .ok (.aload_n 0, 1) := by decide +kernel
theorem dX0_before_9 : decode cX0_before 9 = .ok (.iload_n 2, 1) := by decide +kernel
theorem dX0_before_10 : decode cX0_before 10 = .ok (.invokevirtual 46, 3) := by decide +kernel
theorem dX0_before_13 : decode cX0_before 13 = .ok (.ifCond .eq 5, 3) := by decide +kernel
theorem dX0_before_16 : decode cX0_before 16 = .ok (.iconst 0, 1) := by decide +kernel
theorem dX0_before_17 : decode cX0_before 17 = .ok (.ireturn, 1) := by decide +kernel
theorem dX0_before_18 : decode cX0_before 18 = .ok (.iconst 1, 1) := by decide +kernel
theorem dX0_before_19 : decode cX0_before 19 = .ok (.iload_n 2, 1) := by decide +kernel
theorem dX0_before_20 : decode cX0_before 20 = .ok (.ishl, 1) := by decide +kernel
theorem dX0_before_21 : decode cX0_before 21 = .ok (.istore_n 3, 1) := by decide +kernel
theorem dX0_before_22 : decode cX0_before 22 = .ok (.iload_n 2, 1) := by decide +kernel
theorem dX0_before_23 : decode cX0_before 23 = .ok (.istore 4, 2) := by decide +kernel
theorem dX0_before_25 : decode cX0_before 25 = .ok (.iload 4, 2) := by decide +kernel
theorem dX0_before_27 : decode cX0_before 27 = .ok (.ifCond .lt 51, 3) := by decide +kernel
theorem dX0_before_30 : decode cX0_before 30 = .ok (.iload_n 3, 1) := by decide +kernel
theorem dX0_before_31 : decode cX0_before 31 = .ok (.iload 4, 2) := by decide +kernel
theorem dX0_before_33 : decode cX0_before 33 = .ok (.ishr, 1) := by decide +kernel
theorem dX0_before_34 : decode cX0_before 34 = .ok (.iconst 1, 1) := by decide +kernel
theorem dX0_before_35 : decode cX0_before 35 = .ok (.iand, 1) := by decide +kernel
theorem dX0_before_36 : decode cX0_before 36 = .ok (.iconst 1, 1) := by decide +kernel
theorem dX0_before_37 : decode cX0_before 37 = .ok (.if_icmp .ne 35, 3) := by decide +kernel
theorem dX0_before_40 : decode cX0_before 40 = .ok (.aload_n 0, 1) := by decide +kernel
theorem dX0_before_41 : decode cX0_before 41 = .ok (.getfield 7, 3) := by decide +kernel
theorem dX0_before_44 : decode cX0_before 44 = .ok (.iload 4, 2) := by decide +kernel
theorem dX0_before_46 : decode cX0_before 46 = .ok (.iaload, 1) := by decide +kernel
theorem dX0_before_47 : decode cX0_before 47 = .ok (.ifCond .lt 25, 3) := by decide +kernel
theorem dX0_before_50 : decode cX0_before 50 = .ok (.iload_n 3, 1) := by decide +kernel
theorem dX0_before_51 : decode cX0_before 51 = .ok (.iconst 1, 1) := by decide +kernel
theorem dX0_before_52 : decode cX0_before 52 = .ok (.aload_n 0, 1) := by decide +kernel
theorem dX0_before_53 : decode cX0_before 53 = .ok (.getfield 7, 3) := by decide +kernel
theorem dX0_before_56 : decode cX0_before 56 = .ok (.iload 4, 2) := by decide +kernel
theorem dX0_before_58 : decode cX0_before 58 = .ok (.iaload, 1) := by decide +kernel
theorem dX0_before_59 : decode cX0_before 59 = .ok (.ishl, 1) := by decide +kernel
theorem dX0_before_60 : decode cX0_before 60 = .ok (.ior, 1) := by decide +kernel
theorem dX0_before_61 : decode cX0_before 61 = .ok (.iconst 1, 1) := by decide +kernel
theorem dX0_before_62 : decode cX0_before 62 = .ok (.aload_n 0, 1) := by decide +kernel
theorem dX0_before_63 : decode cX0_before 63 = .ok (.getfield 13, 3) := by decide +kernel
theorem dX0_before_66 : decode cX0_before 66 = .ok (.iload 4, 2) := by decide +kernel
theorem dX0_before_68 : decode cX0_before 68 = .ok (.iaload, 1) := by decide +kernel
theorem dX0_before_69 : decode cX0_before 69 = .ok (.ishl, 1) := by decide +kernel
theorem dX0_before_70 : decode cX0_before 70 = .ok (.ior, 1) := by decide +kernel
theorem dX0_before_71 : decode cX0_before 71 = .ok (.istore_n 3, 1) := by decide +kernel
theorem dX0_before_72 : decode cX0_before 72 = .ok (.iinc 4 (-1), 3) := by decide +kernel
theorem dX0_before_75 : decode cX0_before 75 = .ok (.goto (-50), 3) := by decide +kernel
theorem dX0_before_78 : decode cX0_before 78 = .ok (.iload_n 1, 1) := by decide +kernel
theorem dX0_before_79 : decode cX0_before 79 = .ok (.iload_n 2, 1) := by decide +kernel
theorem dX0_before_80 : decode cX0_before 80 = .ok (.if_icmp .eq 16, 3) := by decide +kernel
theorem dX0_before_83 : decode cX0_before 83 = .ok (.iload_n 3, 1) := by decide +kernel
theorem dX0_before_84 : decode cX0_before 84 = .ok (.iload_n 1, 1) := by decide +kernel
theorem dX0_before_85 : decode cX0_before 85 = .ok (.ishr, 1) := by decide +kernel
theorem dX0_before_86 : decode cX0_before 86 = .ok (.iconst 1, 1) := by decide +kernel
theorem dX0_before_87 : decode cX0_before 87 = .ok (.iand, 1) := by decide +kernel
theorem dX0_before_88 : decode cX0_before 88 = .ok (.iconst 1, 1) := by decide +kernel
theorem dX0_before_89 : decode cX0_before 89 = .ok (.if_icmp .ne 7, 3) := by decide +kernel
theorem dX0_before_92 : decode cX0_before 92 = .ok (.iconst 1, 1) := by decide +kernel
theorem dX0_before_93 : decode cX0_before 93 = .ok (.goto 4, 3) := by decide +kernel
theorem dX0_before_96 : decode cX0_before 96 = .ok (.iconst 0, 1) := by decide +kernel
theorem dX0_before_97 : decode cX0_before 97 = .ok (.ireturn, 1) := by decide +kernel
end
section
set_option maxRecDepth 100000
theorem dX1_init_0 : decode cX1_init 0 = .ok (.aload_n 0, 1) := by decide +kernel
theorem dX1_init_1 : decode cX1_init 1 = .ok (.invokespecial 1, 3) := by decide +kernel
theorem dX1_init_4 : decode cX1_init 4 = .ok (.aload_n 0, 1) := by decide +kernel
theorem dX1_init_5 : decode cX1_init 5 = .ok (.bipush 7, 2) := by decide +kernel
theorem dX1_init_7 : decode cX1_init 7 = .ok (.newarray .int, 2) := by decide +kernel
theorem dX1_init_9 : decode cX1_init 9 = .ok (.putfield 7, 3) := by decide +kernel
theorem dX1_init_12 : decode cX1_init 12 = .ok (.aload_n 0, 1) := by decide +kernel
theorem dX1_init_13 : decode cX1_init 13 = .ok (.bipush 7, 2) := by decide +kernel
theorem dX1_init_15 : decode cX1_init 15 = .ok (.newarray .int, 2) := by decide +kernel
theorem dX1_init_17 : decode cX1_init 17 = .ok (.putfield 13, 3) := by decide +kernel
theorem dX1_init_20 : decode cX1_init 20 = .ok (.aload_n 0, 1) := by decide +kernel
theorem dX1_init_21 : decode cX1_init 21 = .ok (.bipush 21, 2) := by decide +kernel
theorem dX1_init_23 : decode cX1_init 23 = .ok (.newarray .int, 2) := by decide +kernel
theorem dX1_init_25 : decode cX1_init 25 = .ok (.putfield 16, 3) := by decide +kernel
theorem dX1_init_28 : decode cX1_init 28 = .ok (.aload_n 0, 1) := by decide +kernel
theorem dX1_init_29 : decode cX1_init 29 = .ok (.bipush 8, 2) := by decide +kernel
theorem dX1_init_31 : decode cX1_init 31 = .ok (.putfield 19, 3) := by decide +kernel
theorem dX1_init_34 : decode cX1_init 34 = .ok (.return_, 1) := by decide +kernel
theorem dX1_founder_0 : decode cX1_founder 0 = .ok (.aload_n 0, 1) := by decide +kernel
theorem dX1_founder_1 : decode cX1_founder 1 = .ok (.iconst (-1), 1) := by decide +kernel
theorem dX1_founder_2 : decode cX1_founder 2 = .ok (.iconst (-1), 1) := by decide +kernel
theorem dX1_founder_3 : decode cX1_founder 3 = .ok (.invokevirtual 26, 3) := by decide +kernel
theorem dX1_founder_6 : decode cX1_founder 6 = .ok (.ireturn, 1) := by decide +kernel
theorem dX1_add_0 : decode cX1_add 0 = .ok (.aload_n 0, 1) := by decide +kernel
theorem dX1_add_1 : decode cX1_add 1 = .ok (.getfield 23, 3) := by decide +kernel
theorem dX1_add_4 : decode cX1_add 4 = .ok (.bipush 7, 2) := by decide +kernel
theorem dX1_add_6 : decode cX1_add 6 = .ok (.if_icmp .ne 6, 3) := by decide +kernel
theorem dX1_add_9 : decode cX1_add 9 = .ok (.bipush (-2), 2) := by decide +kernel
theorem dX1_add_11 : decode cX1_add 11 = .ok (.ireturn, 1) := by decide +kernel
theorem dX1_add_12 : decode cX1_add 12 = .ok (.aload_n 0, 1) := by decide +kernel
theorem dX1_add_13 : decode cX1_add 13 = .ok (.getfield 7, 3) := by decide +kernel
theorem dX1_add_16 : decode cX1_add 16 = .ok (.aload_n 0, 1) := by decide +kernel
theorem dX1_add_17 : decode cX1_add 17 = .ok (.getfield 23, 3) := by decide +kernel
theorem dX1_add_20 : decode cX1_add 20 = .ok (.iload_n 1, 1) := by decide +kernel
theorem dX1_add_21 : decode cX1_add 21 = .ok (.iastore, 1) := by decide +kernel
theorem dX1_add_22 : decode cX1_add 22 = .ok (.aload_n 0, 1) := by decide +kernel
theorem dX1_add_23 : decode cX1_add 23 = .ok (.getfield 13, 3) := by decide +kernel
theorem dX1_add_26 : decode cX1_add 26 = .ok (.aload_n 0, 1) := by decide +kernel
theorem dX1_add_27 : decode cX1_add 27 = .ok (.getfield 23, 3) := by decide +kernel
theorem dX1_add_30 : decode cX1_add 30 = .ok (.iload_n 2, 1) := by decide +kernel
theorem dX1_add_31 : decode cX1_add 31 = .ok (.iastore, 1) := by decide +kernel
theorem dX1_add_32 : decode cX1_add 32 = .ok (.iconst 0, 1) := by decide +kernel
theorem dX1_add_33 : decode cX1_add 33 = .ok (.istore_n 3, 1) := by decide +kernel
theorem dX1_add_34 : decode cX1_add 34 = .ok (.iload_n 3, 1) := by decide +kernel
theorem dX1_add_35 : decode cX1_add 35 = .ok (.iconst 3, 1) := by decide +kernel
theorem dX1_add_36 : decode cX1_add 36 = .ok (.if_icmp .ge 23, 3) := by decide +kernel
theorem dX1_add_39 : decode cX1_add 39 = .ok (.aload_n 0, 1) := by decide +kernel
theorem dX1_add_40 : decode cX1_add 40 = .ok (.getfield 16, 3) := by decide +kernel
theorem dX1_add_43 : decode cX1_add 43 = .ok (.iconst 3, 1) := by decide +kernel
theorem dX1_add_44 : decode cX1_add 44 = .ok (.aload_n 0, 1) := by decide +kernel
theorem dX1_add_45 : decode cX1_add 45 = .ok (.getfield 23, 3) := by decide +kernel
theorem dX1_add_48 : decode cX1_add 48 = .ok (.imul, 1) := by decide +kernel
theorem dX1_add_49 : decode cX1_add 49 = .ok (.iload_n 3, 1) := by decide +kernel
theorem dX1_add_50 : decode cX1_add 50 = .ok (.iadd, 1) := by decide +kernel
theorem dX1_add_51 : decode cX1_add 51 = .ok (.iconst 1, 1) := by decide +kernel
theorem dX1_add_52 : decode cX1_add 52 = .ok (.iastore, 1) := by decide +kernel
theorem dX1_add_53 : decode cX1_add 53 = .ok (.iinc 3 1, 3) := by decide +kernel
theorem dX1_add_56 : decode cX1_add 56 = .ok (.goto (-22), 3) := by decide +kernel
theorem dX1_add_59 : decode cX1_add 59 = .ok (.aload_n 0, 1) := by decide +kernel
theorem dX1_add_60 : decode cX1_add 60 = .ok (.dup, 1) := by decide +kernel
theorem dX1_add_61 : decode cX1_add 61 = .ok (.getfield 23, 3) := by decide +kernel
theorem dX1_add_64 : decode cX1_add 64 = .ok (.iconst 1, 1) := by decide +kernel
theorem dX1_add_65 : decode cX1_add 65 = .ok (.iadd, 1) := by decide +kernel
theorem dX1_add_66 : decode cX1_add 66 = .ok (.putfield 23, 3) := by decide +kernel
theorem dX1_add_69 : decode cX1_add 69 = .ok (.aload_n 0, 1) := by decide +kernel
theorem dX1_add_70 : decode cX1_add 70 = .ok (.getfield 23, 3) := by decide +kernel
theorem dX1_add_73 : decode cX1_add 73 = .ok (.iconst 1, 1) := by decide +kernel
theorem dX1_add_74 : decode cX1_add 74 = .ok (.isub, 1) := by decide +kernel
theorem dX1_add_75 : decode cX1_add 75 = .ok (.ireturn, 1) := by decide +kernel
theorem dX1_child_0 : decode cX1_child 0 = .ok (.aload_n 0, 1) := by decide +kernel
theorem dX1_child_1 : decode cX1_child 1 = .ok (.iload_n 1, 1) := by decide +kernel
theorem dX1_child_2 : decode cX1_child 2 = .ok (.invokevirtual 30, 3) := by decide +kernel
theorem dX1_child_5 : decode cX1_child 5 = .ok (.ifCond .eq 25, 3) := by decide +kernel
theorem dX1_child_8 : decode cX1_child 8 = .ok (.aload_n 0, 1) := by decide +kernel
theorem dX1_child_9 : decode cX1_child 9 = .ok (.iload_n 2, 1) := by decide +kernel
theorem dX1_child_10 : decode cX1_child 10 = .ok (.invokevirtual 30, 3) := by decide +kernel
theorem dX1_child_13 : decode cX1_child 13 = .ok (.ifCond .eq 17, 3) := by decide +kernel
theorem dX1_child_16 : decode cX1_child 16 = .ok (.iload_n 1, 1) := by decide +kernel
theorem dX1_child_17 : decode cX1_child 17 = .ok (.iload_n 2, 1) := by decide +kernel
theorem dX1_child_18 : decode cX1_child 18 = .ok (.if_icmp .eq 12, 3) := by decide +kernel
theorem dX1_child_21 : decode cX1_child 21 = .ok (.aload_n 0, 1) := by decide +kernel
theorem dX1_child_22 : decode cX1_child 22 = .ok (.iload_n 1, 1) := by decide +kernel
theorem dX1_child_23 : decode cX1_child 23 = .ok (.iload_n 2, 1) := by decide +kernel
theorem dX1_child_24 : decode cX1_child 24 = .ok (.invokevirtual 26, 3) := by decide +kernel
theorem dX1_child_27 : decode cX1_child 27 = .ok (.goto 4, 3) := by decide +kernel
theorem dX1_child_30 : decode cX1_child 30 = .ok (.iconst (-1), 1) := by decide +kernel
theorem dX1_child_31 : decode cX1_child 31 = .ok (.ireturn, 1) := by decide +kernel
theorem dX1_isPerson_0 : decode cX1_isPerson 0 = .ok (.iload_n 1, 1) := by decide +kernel
theorem dX1_isPerson_1 : decode cX1_isPerson 1 = .ok (.ifCond .lt 15, 3) := by decide +kernel
theorem dX1_isPerson_4 : decode cX1_isPerson 4 = .ok (.iload_n 1, 1) := by decide +kernel
theorem dX1_isPerson_5 : decode cX1_isPerson 5 = .ok (.aload_n 0, 1) := by decide +kernel
theorem dX1_isPerson_6 : decode cX1_isPerson 6 = .ok (.getfield 23, 3) := by decide +kernel
theorem dX1_isPerson_9 : decode cX1_isPerson 9 = .ok (.if_icmp .ge 7, 3) := by decide +kernel
theorem dX1_isPerson_12 : decode cX1_isPerson 12 = .ok (.iconst 1, 1) := by decide +kernel
theorem dX1_isPerson_13 : decode cX1_isPerson 13 = .ok (.goto 4, 3) := by decide +kernel
theorem dX1_isPerson_16 : decode cX1_isPerson 16 = .ok (.iconst 0, 1) := by decide +kernel
theorem dX1_isPerson_17 : decode cX1_isPerson 17 = .ok (.ireturn, 1) := by decide +kernel
theorem dX1_remove_0 : decode cX1_remove 0 = .ok (.aload_n 0, 1) := by decide +kernel
theorem dX1_remove_1 : decode cX1_remove 1 = .ok (.getfield 23, 3) := by decide +kernel
theorem dX1_remove_4 : decode cX1_remove 4 = .ok (.ifCond .ne 5, 3) := by decide +kernel
theorem dX1_remove_7 : decode cX1_remove 7 = .ok (.iconst (-1), 1) := by decide +kernel
theorem dX1_remove_8 : decode cX1_remove 8 = .ok (.ireturn, 1) := by decide +kernel
theorem dX1_remove_9 : decode cX1_remove 9 = .ok (.aload_n 0, 1) := by decide +kernel
theorem dX1_remove_10 : decode cX1_remove 10 = .ok (.dup, 1) := by decide +kernel
theorem dX1_remove_11 : decode cX1_remove 11 = .ok (.getfield 23, 3) := by decide +kernel
theorem dX1_remove_14 : decode cX1_remove 14 = .ok (.iconst 1, 1) := by decide +kernel
theorem dX1_remove_15 : decode cX1_remove 15 = .ok (.isub, 1) := by decide +kernel
theorem dX1_remove_16 : decode cX1_remove 16 = .ok (.putfield 23, 3) := by decide +kernel
theorem dX1_remove_19 : decode cX1_remove 19 = .ok (.aload_n 0, 1) := by decide +kernel
theorem dX1_remove_20 : decode cX1_remove 20 = .ok (.getfield 23, 3) := by decide +kernel
theorem dX1_remove_23 : decode cX1_remove 23 = .ok (.ireturn, 1) := by decide +kernel
theorem dX1_persons_0 : decode cX1_persons 0 = .ok (.aload_n 0, 1) := by decide +kernel
theorem dX1_persons_1 : decode cX1_persons 1 = .ok (.getfield 23, 3) := by decide +kernel
theorem dX1_persons_4 : decode cX1_persons 4 = .ok (.ireturn, 1) := by decide +kernel
theorem dX1_frequency_0 : decode cX1_frequency 0 = .ok (.iload_n 1, 1) := by decide +kernel
theorem dX1_frequency_1 : decode cX1_frequency 1 = .ok (.ifCond .lt 9, 3) := by decide +kernel
theorem dX1_frequency_4 : decode cX1_frequency 4 = .ok (.iload_n 1, 1) := by decide +kernel
theorem dX1_frequency_5 : decode cX1_frequency 5 = .ok (.bipush 16, 2) := by decide +kernel
theorem dX1_frequency_7 : decode cX1_frequency 7 = .ok (.if_icmp .le 5, 3) := by decide +kernel
theorem dX1_frequency_10 : decode cX1_frequency 10 = .ok (.iconst (-1), 1) := by decide +kernel
theorem dX1_frequency_11 : decode cX1_frequency 11 = .ok (.ireturn, 1) := by decide +kernel
theorem dX1_frequency_12 : decode cX1_frequency 12 = .ok (.aload_n 0, 1) := by decide +kernel
theorem dX1_frequency_13 : decode cX1_frequency 13 = .ok (.getfield 19, 3) := by decide +kernel
theorem dX1_frequency_16 : decode cX1_frequency 16 = .ok (.istore_n 2, 1) := by decide +kernel
theorem dX1_frequency_17 : decode cX1_frequency 17 = .ok (.aload_n 0, 1) := by decide +kernel
theorem dX1_frequency_18 : decode cX1_frequency 18 = .ok (.iload_n 1, 1) := by decide +kernel
theorem dX1_frequency_19 : decode cX1_frequency 19 = .ok (.putfield 19, 3) := by decide +kernel
theorem dX1_frequency_22 : decode cX1_frequency 22 = .ok (.iload_n 2, 1) := by decide +kernel
theorem dX1_frequency_23 : decode cX1_frequency 23 = .ok (.ireturn, 1) := by decide +kernel
theorem dX1_see_0 : decode cX1_see 0 = .ok (.aload_n 0, 1) := by decide +kernel
theorem dX1_see_1 : decode cX1_see 1 = .ok (.iload_n 1, 1) := by decide +kernel
theorem dX1_see_2 : decode cX1_see 2 = .ok (.invokevirtual 30, 3) := by decide +kernel
theorem dX1_see_5 : decode cX1_see 5 = .ok (.ifCond .eq 20, 3) := by decide +kernel
theorem dX1_see_8 : decode cX1_see 8 = .ok (.aload_n 0, 1) := by decide +kernel
theorem dX1_see_9 : decode cX1_see 9 = .ok (.iload_n 2, 1) := by decide +kernel
theorem dX1_see_10 : decode cX1_see 10 = .ok (.invokevirtual 34, 3) := by decide +kernel
theorem dX1_see_13 : decode cX1_see 13 = .ok (.ifCond .eq 12, 3) := by decide +kernel
theorem dX1_see_16 : decode cX1_see 16 = .ok (.iload_n 3, 1) := by decide +kernel
theorem dX1_see_17 : decode cX1_see 17 = .ok (.ifCond .lt 8, 3) := by decide +kernel
theorem dX1_see_20 : decode cX1_see 20 = .ok (.iload_n 3, 1) := by decide +kernel
theorem dX1_see_21 : decode cX1_see 21 = .ok (.iconst 5, 1) := by decide +kernel
theorem dX1_see_22 : decode cX1_see 22 = .ok (.if_icmp .le 5, 3) := by decide +kernel
theorem dX1_see_25 : decode cX1_see 25 = .ok (.iconst (-1), 1) := by decide +kernel
theorem dX1_see_26 : decode cX1_see 26 = .ok (.ireturn, 1) := by decide +kernel
theorem dX1_see_27 : decode cX1_see 27 = .ok (.aload_n 0, 1) := by decide +kernel
theorem dX1_see_28 : decode cX1_see 28 = .ok (.getfield 16, 3) := by decide +kernel
theorem dX1_see_31 : decode cX1_see 31 = .ok (.iconst 3, 1) := by decide +kernel
theorem dX1_see_32 : decode cX1_see 32 = .ok (.iload_n 1, 1) := by decide +kernel
theorem dX1_see_33 : decode cX1_see 33 = .ok (.imul, 1) := by decide +kernel
theorem dX1_see_34 : decode cX1_see 34 = .ok (.iload_n 2, 1) := by decide +kernel
theorem dX1_see_35 : decode cX1_see 35 = .ok (.iadd, 1) := by decide +kernel
theorem dX1_see_36 : decode cX1_see 36 = .ok (.iaload, 1) := by decide +kernel
theorem dX1_see_37 : decode cX1_see 37 = .ok (.istore 4, 2) := by decide +kernel
theorem dX1_see_39 : decode cX1_see 39 = .ok (.aload_n 0, 1) := by decide +kernel
theorem dX1_see_40 : decode cX1_see 40 = .ok (.getfield 16, 3) := by decide +kernel
theorem dX1_see_43 : decode cX1_see 43 = .ok (.iconst 3, 1) := by decide +kernel
theorem dX1_see_44 : decode cX1_see 44 = .ok (.iload_n 1, 1) := by decide +kernel
theorem dX1_see_45 : decode cX1_see 45 = .ok (.imul, 1) := by decide +kernel
theorem dX1_see_46 : decode cX1_see 46 = .ok (.iload_n 2, 1) := by decide +kernel
theorem dX1_see_47 : decode cX1_see 47 = .ok (.iadd, 1) := by decide +kernel
theorem dX1_see_48 : decode cX1_see 48 = .ok (.iload_n 3, 1) := by decide +kernel
theorem dX1_see_49 : decode cX1_see 49 = .ok (.iastore, 1) := by decide +kernel
theorem dX1_see_50 : decode cX1_see 50 = .ok (.iload 4, 2) := by decide +kernel
theorem dX1_see_52 : decode cX1_see 52 = .ok (.ireturn, 1) := by decide +kernel
theorem dX1_isGenotype_0 : decode cX1_isGenotype 0 = .ok (.iload_n 1, 1) := by decide +kernel
theorem dX1_isGenotype_1 : decode cX1_isGenotype 1 = .ok (.ifCond .lt 12, 3) := by decide +kernel
theorem dX1_isGenotype_4 : decode cX1_isGenotype 4 = .ok (.iload_n 1, 1) := by decide +kernel
theorem dX1_isGenotype_5 : decode cX1_isGenotype 5 = .ok (.iconst 2, 1) := by decide +kernel
theorem dX1_isGenotype_6 : decode cX1_isGenotype 6 = .ok (.if_icmp .gt 7, 3) := by decide +kernel
theorem dX1_isGenotype_9 : decode cX1_isGenotype 9 = .ok (.iconst 1, 1) := by decide +kernel
theorem dX1_isGenotype_10 : decode cX1_isGenotype 10 = .ok (.goto 4, 3) := by decide +kernel
theorem dX1_isGenotype_13 : decode cX1_isGenotype 13 = .ok (.iconst 0, 1) := by decide +kernel
theorem dX1_isGenotype_14 : decode cX1_isGenotype 14 = .ok (.ireturn, 1) := by decide +kernel
theorem dX1_seen_0 : decode cX1_seen 0 = .ok (.aload_n 0, 1) := by decide +kernel
theorem dX1_seen_1 : decode cX1_seen 1 = .ok (.iload_n 1, 1) := by decide +kernel
theorem dX1_seen_2 : decode cX1_seen 2 = .ok (.invokevirtual 30, 3) := by decide +kernel
theorem dX1_seen_5 : decode cX1_seen 5 = .ok (.ifCond .eq 24, 3) := by decide +kernel
theorem dX1_seen_8 : decode cX1_seen 8 = .ok (.aload_n 0, 1) := by decide +kernel
theorem dX1_seen_9 : decode cX1_seen 9 = .ok (.iload_n 2, 1) := by decide +kernel
theorem dX1_seen_10 : decode cX1_seen 10 = .ok (.invokevirtual 34, 3) := by decide +kernel
theorem dX1_seen_13 : decode cX1_seen 13 = .ok (.ifCond .eq 16, 3) := by decide +kernel
theorem dX1_seen_16 : decode cX1_seen 16 = .ok (.aload_n 0, 1) := by decide +kernel
theorem dX1_seen_17 : decode cX1_seen 17 = .ok (.getfield 16, 3) := by decide +kernel
theorem dX1_seen_20 : decode cX1_seen 20 = .ok (.iconst 3, 1) := by decide +kernel
theorem dX1_seen_21 : decode cX1_seen 21 = .ok (.iload_n 1, 1) := by decide +kernel
theorem dX1_seen_22 : decode cX1_seen 22 = .ok (.imul, 1) := by decide +kernel
theorem dX1_seen_23 : decode cX1_seen 23 = .ok (.iload_n 2, 1) := by decide +kernel
theorem dX1_seen_24 : decode cX1_seen 24 = .ok (.iadd, 1) := by decide +kernel
theorem dX1_seen_25 : decode cX1_seen 25 = .ok (.iaload, 1) := by decide +kernel
theorem dX1_seen_26 : decode cX1_seen 26 = .ok (.goto 4, 3) := by decide +kernel
theorem dX1_seen_29 : decode cX1_seen 29 = .ok (.iconst (-1), 1) := by decide +kernel
theorem dX1_seen_30 : decode cX1_seen 30 = .ok (.ireturn, 1) := by decide +kernel
theorem dX1_likelihood_0 : decode cX1_likelihood 0 = .ok (.lconst 0, 1) := by decide +kernel
theorem dX1_likelihood_1 : decode cX1_likelihood 1 = .ok (.lstore_n 1, 1) := by decide +kernel
theorem dX1_likelihood_2 : decode cX1_likelihood 2 = .ok (.aload_n 0, 1) := by decide +kernel
theorem dX1_likelihood_3 : decode cX1_likelihood 3 = .ok (.aload_n 0, 1) := by decide +kernel
theorem dX1_likelihood_4 : decode cX1_likelihood 4 = .ok (.getfield 23, 3) := by decide +kernel
theorem dX1_likelihood_7 : decode cX1_likelihood 7 = .ok (.invokevirtual 37, 3) := by decide +kernel
theorem dX1_likelihood_10 : decode cX1_likelihood 10 = .ok (.istore_n 3, 1) := by decide +kernel
theorem dX1_likelihood_11 : decode cX1_likelihood 11 = .ok (.iconst 0, 1) := by decide +kernel
theorem dX1_likelihood_12 : decode cX1_likelihood 12 = .ok (.istore 4, 2) := by decide +kernel
theorem dX1_likelihood_14 : decode cX1_likelihood 14 = .ok (.iload 4, 2) := by decide +kernel
theorem dX1_likelihood_16 : decode cX1_likelihood 16 = .ok (.iload_n 3, 1) := by decide +kernel
theorem dX1_likelihood_17 : decode cX1_likelihood 17 = .ok (.if_icmp .ge 18, 3) := by decide +kernel
theorem dX1_likelihood_20 : decode cX1_likelihood 20 = .ok (.lload_n 1, 1) := by decide +kernel
theorem dX1_likelihood_21 : decode cX1_likelihood 21 = .ok (.aload_n 0, 1) := by decide +kernel
theorem dX1_likelihood_22 : decode cX1_likelihood 22 = .ok (.iload 4, 2) := by decide +kernel
theorem dX1_likelihood_24 : decode cX1_likelihood 24 = .ok (.invokevirtual 54, 3) := by decide +kernel
theorem dX1_likelihood_27 : decode cX1_likelihood 27 = .ok (.ladd, 1) := by decide +kernel
theorem dX1_likelihood_28 : decode cX1_likelihood 28 = .ok (.lstore_n 1, 1) := by decide +kernel
theorem dX1_likelihood_29 : decode cX1_likelihood 29 = .ok (.iinc 4 1, 3) := by decide +kernel
theorem dX1_likelihood_32 : decode cX1_likelihood 32 = .ok (.goto (-18), 3) := by decide +kernel
theorem dX1_likelihood_35 : decode cX1_likelihood 35 = .ok (.lload_n 1, 1) := by decide +kernel
theorem dX1_likelihood_36 : decode cX1_likelihood 36 = .ok (.lreturn, 1) := by decide +kernel
theorem dX1_power_0 : decode cX1_power 0 = .ok (.iconst 1, 1) := by decide +kernel
theorem dX1_power_1 : decode cX1_power 1 = .ok (.istore_n 2, 1) := by decide +kernel
theorem dX1_power_2 : decode cX1_power 2 = .ok (.iconst 0, 1) := by decide +kernel
theorem dX1_power_3 : decode cX1_power 3 = .ok (.istore_n 3, 1) := by decide +kernel
theorem dX1_power_4 : decode cX1_power 4 = .ok (.iload_n 3, 1) := by decide +kernel
theorem dX1_power_5 : decode cX1_power 5 = .ok (.iload_n 1, 1) := by decide +kernel
theorem dX1_power_6 : decode cX1_power 6 = .ok (.if_icmp .ge 13, 3) := by decide +kernel
theorem dX1_power_9 : decode cX1_power 9 = .ok (.iconst 3, 1) := by decide +kernel
theorem dX1_power_10 : decode cX1_power 10 = .ok (.iload_n 2, 1) := by decide +kernel
theorem dX1_power_11 : decode cX1_power 11 = .ok (.imul, 1) := by decide +kernel
theorem dX1_power_12 : decode cX1_power 12 = .ok (.istore_n 2, 1) := by decide +kernel
theorem dX1_power_13 : decode cX1_power 13 = .ok (.iinc 3 1, 3) := by decide +kernel
theorem dX1_power_16 : decode cX1_power 16 = .ok (.goto (-12), 3) := by decide +kernel
theorem dX1_power_19 : decode cX1_power 19 = .ok (.iload_n 2, 1) := by decide +kernel
theorem dX1_power_20 : decode cX1_power 20 = .ok (.ireturn, 1) := by decide +kernel
theorem dX1_weight_0 : decode cX1_weight 0 = .ok (.lconst 1, 1) := by decide +kernel
theorem dX1_weight_1 : decode cX1_weight 1 = .ok (.lstore_n 2, 1) := by decide +kernel
theorem dX1_weight_2 : decode cX1_weight 2 = .ok (.iconst 0, 1) := by decide +kernel
theorem dX1_weight_3 : decode cX1_weight 3 = .ok (.istore 4, 2) := by decide +kernel
theorem dX1_weight_5 : decode cX1_weight 5 = .ok (.iload 4, 2) := by decide +kernel
theorem dX1_weight_7 : decode cX1_weight 7 = .ok (.aload_n 0, 1) := by decide +kernel
theorem dX1_weight_8 : decode cX1_weight 8 = .ok (.getfield 23, 3) := by decide +kernel
theorem dX1_weight_11 : decode cX1_weight 11 = .ok (.if_icmp .ge 20, 3) := by decide +kernel
theorem dX1_weight_14 : decode cX1_weight 14 = .ok (.lload_n 2, 1) := by decide +kernel
theorem dX1_weight_15 : decode cX1_weight 15 = .ok (.aload_n 0, 1) := by decide +kernel
theorem dX1_weight_16 : decode cX1_weight 16 = .ok (.iload_n 1, 1) := by decide +kernel
theorem dX1_weight_17 : decode cX1_weight 17 = .ok (.iload 4, 2) := by decide +kernel
theorem dX1_weight_19 : decode cX1_weight 19 = .ok (.invokevirtual 51, 3) := by decide +kernel
theorem dX1_weight_22 : decode cX1_weight 22 = .ok (.i2l, 1) := by decide +kernel
theorem dX1_weight_23 : decode cX1_weight 23 = .ok (.lmul, 1) := by decide +kernel
theorem dX1_weight_24 : decode cX1_weight 24 = .ok (.lstore_n 2, 1) := by decide +kernel
theorem dX1_weight_25 : decode cX1_weight 25 = .ok (.iinc 4 1, 3) := by decide +kernel
theorem dX1_weight_28 : decode cX1_weight 28 = .ok (.goto (-23), 3) := by decide +kernel
theorem dX1_weight_31 : decode cX1_weight 31 = .ok (.lload_n 2, 1) := by decide +kernel
theorem dX1_weight_32 : decode cX1_weight 32 = .ok (.lreturn, 1) := by decide +kernel
theorem dX1_factor_0 : decode cX1_factor 0 = .ok (.aload_n 0, 1) := by decide +kernel
theorem dX1_factor_1 : decode cX1_factor 1 = .ok (.iload_n 1, 1) := by decide +kernel
theorem dX1_factor_2 : decode cX1_factor 2 = .ok (.iload_n 2, 1) := by decide +kernel
theorem dX1_factor_3 : decode cX1_factor 3 = .ok (.invokevirtual 41, 3) := by decide +kernel
theorem dX1_factor_6 : decode cX1_factor 6 = .ok (.istore_n 3, 1) := by decide +kernel
theorem dX1_factor_7 : decode cX1_factor 7 = .ok (.aload_n 0, 1) := by decide +kernel
theorem dX1_factor_8 : decode cX1_factor 8 = .ok (.getfield 16, 3) := by decide +kernel
theorem dX1_factor_11 : decode cX1_factor 11 = .ok (.iconst 3, 1) := by decide +kernel
theorem dX1_factor_12 : decode cX1_factor 12 = .ok (.iload_n 2, 1) := by decide +kernel
theorem dX1_factor_13 : decode cX1_factor 13 = .ok (.imul, 1) := by decide +kernel
theorem dX1_factor_14 : decode cX1_factor 14 = .ok (.iload_n 3, 1) := by decide +kernel
theorem dX1_factor_15 : decode cX1_factor 15 = .ok (.iadd, 1) := by decide +kernel
theorem dX1_factor_16 : decode cX1_factor 16 = .ok (.iaload, 1) := by decide +kernel
theorem dX1_factor_17 : decode cX1_factor 17 = .ok (.istore 4, 2) := by decide +kernel
theorem dX1_factor_19 : decode cX1_factor 19 = .ok (.aload_n 0, 1) := by decide +kernel
theorem dX1_factor_20 : decode cX1_factor 20 = .ok (.getfield 7, 3) := by decide +kernel
theorem dX1_factor_23 : decode cX1_factor 23 = .ok (.iload_n 2, 1) := by decide +kernel
theorem dX1_factor_24 : decode cX1_factor 24 = .ok (.iaload, 1) := by decide +kernel
theorem dX1_factor_25 : decode cX1_factor 25 = .ok (.ifCond .ge 12, 3) := by decide +kernel
theorem dX1_factor_28 : decode cX1_factor 28 = .ok (.iload 4, 2) := by decide +kernel
theorem dX1_factor_30 : decode cX1_factor 30 = .ok (.aload_n 0, 1) := by decide +kernel
theorem dX1_factor_31 : decode cX1_factor 31 = .ok (.iload_n 3, 1) := by decide +kernel
theorem dX1_factor_32 : decode cX1_factor 32 = .ok (.invokevirtual 44, 3) := by decide +kernel
theorem dX1_factor_35 : decode cX1_factor 35 = .ok (.imul, 1) := by decide +kernel
theorem dX1_factor_36 : decode cX1_factor 36 = .ok (.ireturn, 1) := by decide +kernel
theorem dX1_factor_37 : decode cX1_factor 37 = .ok (.aload_n 0, 1) := by decide +kernel
theorem dX1_factor_38 : decode cX1_factor 38 = .ok (.iload_n 1, 1) := by decide +kernel
theorem dX1_factor_39 : decode cX1_factor 39 = .ok (.aload_n 0, 1) := by decide +kernel
theorem dX1_factor_40 : decode cX1_factor 40 = .ok (.getfield 7, 3) := by decide +kernel
theorem dX1_factor_43 : decode cX1_factor 43 = .ok (.iload_n 2, 1) := by decide +kernel
theorem dX1_factor_44 : decode cX1_factor 44 = .ok (.iaload, 1) := by decide +kernel
theorem dX1_factor_45 : decode cX1_factor 45 = .ok (.invokevirtual 41, 3) := by decide +kernel
theorem dX1_factor_48 : decode cX1_factor 48 = .ok (.istore 5, 2) := by decide +kernel
theorem dX1_factor_50 : decode cX1_factor 50 = .ok (.aload_n 0, 1) := by decide +kernel
theorem dX1_factor_51 : decode cX1_factor 51 = .ok (.iload_n 1, 1) := by decide +kernel
theorem dX1_factor_52 : decode cX1_factor 52 = .ok (.aload_n 0, 1) := by decide +kernel
theorem dX1_factor_53 : decode cX1_factor 53 = .ok (.getfield 13, 3) := by decide +kernel
theorem dX1_factor_56 : decode cX1_factor 56 = .ok (.iload_n 2, 1) := by decide +kernel
theorem dX1_factor_57 : decode cX1_factor 57 = .ok (.iaload, 1) := by decide +kernel
theorem dX1_factor_58 : decode cX1_factor 58 = .ok (.invokevirtual 41, 3) := by decide +kernel
theorem dX1_factor_61 : decode cX1_factor 61 = .ok (.istore 6, 2) := by decide +kernel
theorem dX1_factor_63 : decode cX1_factor 63 = .ok (.iload 4, 2) := by decide +kernel
theorem dX1_factor_65 : decode cX1_factor 65 = .ok (.aload_n 0, 1) := by decide +kernel
theorem dX1_factor_66 : decode cX1_factor 66 = .ok (.iload 5, 2) := by decide +kernel
theorem dX1_factor_68 : decode cX1_factor 68 = .ok (.iload 6, 2) := by decide +kernel
theorem dX1_factor_70 : decode cX1_factor 70 = .ok (.iload_n 3, 1) := by decide +kernel
theorem dX1_factor_71 : decode cX1_factor 71 = .ok (.invokevirtual 47, 3) := by decide +kernel
theorem dX1_factor_74 : decode cX1_factor 74 = .ok (.imul, 1) := by decide +kernel
theorem dX1_factor_75 : decode cX1_factor 75 = .ok (.ireturn, 1) := by decide +kernel
theorem dX1_genotype_0 : decode cX1_genotype 0 = .ok (.aload_n 0, 1) := by decide +kernel
theorem dX1_genotype_1 : decode cX1_genotype 1 = .ok (.iload_n 2, 1) := by decide +kernel
theorem dX1_genotype_2 : decode cX1_genotype 2 = .ok (.invokevirtual 37, 3) := by decide +kernel
theorem dX1_genotype_5 : decode cX1_genotype 5 = .ok (.istore_n 3, 1) := by decide +kernel
theorem dX1_genotype_6 : decode cX1_genotype 6 = .ok (.iload_n 1, 1) := by decide +kernel
theorem dX1_genotype_7 : decode cX1_genotype 7 = .ok (.iload_n 3, 1) := by decide +kernel
theorem dX1_genotype_8 : decode cX1_genotype 8 = .ok (.idiv, 1) := by decide +kernel
theorem dX1_genotype_9 : decode cX1_genotype 9 = .ok (.iconst 3, 1) := by decide +kernel
theorem dX1_genotype_10 : decode cX1_genotype 10 = .ok (.irem, 1) := by decide +kernel
theorem dX1_genotype_11 : decode cX1_genotype 11 = .ok (.ireturn, 1) := by decide +kernel
theorem dX1_founded_0 : decode cX1_founded 0 = .ok (.iload_n 1, 1) := by decide +kernel
theorem dX1_founded_1 : decode cX1_founded 1 = .ok (.ifCond .ne 21, 3) := by decide +kernel
theorem dX1_founded_4 : decode cX1_founded 4 = .ok (.bipush 16, 2) := by decide +kernel
theorem dX1_founded_6 : decode cX1_founded 6 = .ok (.aload_n 0, 1) := by decide +kernel
theorem dX1_founded_7 : decode cX1_founded 7 = .ok (.getfield 19, 3) := by decide +kernel
theorem dX1_founded_10 : decode cX1_founded 10 = .ok (.isub, 1) := by decide +kernel
theorem dX1_founded_11 : decode cX1_founded 11 = .ok (.bipush 16, 2) := by decide +kernel
theorem dX1_founded_13 : decode cX1_founded 13 = .ok (.aload_n 0, 1) := by decide +kernel
theorem dX1_founded_14 : decode cX1_founded 14 = .ok (.getfield 19, 3) := by decide +kernel
theorem dX1_founded_17 : decode cX1_founded 17 = .ok (.isub, 1) := by decide +kernel
theorem dX1_founded_18 : decode cX1_founded 18 = .ok (.imul, 1) := by decide +kernel
theorem dX1_founded_19 : decode cX1_founded 19 = .ok (.goto 34, 3) := by decide +kernel
theorem dX1_founded_22 : decode cX1_founded 22 = .ok (.iload_n 1, 1) := by decide +kernel
theorem dX1_founded_23 : decode cX1_founded 23 = .ok (.iconst 1, 1) := by decide +kernel
theorem dX1_founded_24 : decode cX1_founded 24 = .ok (.if_icmp .ne 20, 3) := by decide +kernel
theorem dX1_founded_27 : decode cX1_founded 27 = .ok (.iconst 2, 1) := by decide +kernel
theorem dX1_founded_28 : decode cX1_founded 28 = .ok (.aload_n 0, 1) := by decide +kernel
theorem dX1_founded_29 : decode cX1_founded 29 = .ok (.getfield 19, 3) := by decide +kernel
theorem dX1_founded_32 : decode cX1_founded 32 = .ok (.imul, 1) := by decide +kernel
theorem dX1_founded_33 : decode cX1_founded 33 = .ok (.bipush 16, 2) := by decide +kernel
theorem dX1_founded_35 : decode cX1_founded 35 = .ok (.aload_n 0, 1) := by decide +kernel
theorem dX1_founded_36 : decode cX1_founded 36 = .ok (.getfield 19, 3) := by decide +kernel
theorem dX1_founded_39 : decode cX1_founded 39 = .ok (.isub, 1) := by decide +kernel
theorem dX1_founded_40 : decode cX1_founded 40 = .ok (.imul, 1) := by decide +kernel
theorem dX1_founded_41 : decode cX1_founded 41 = .ok (.goto 12, 3) := by decide +kernel
theorem dX1_founded_44 : decode cX1_founded 44 = .ok (.aload_n 0, 1) := by decide +kernel
theorem dX1_founded_45 : decode cX1_founded 45 = .ok (.getfield 19, 3) := by decide +kernel
theorem dX1_founded_48 : decode cX1_founded 48 = .ok (.aload_n 0, 1) := by decide +kernel
theorem dX1_founded_49 : decode cX1_founded 49 = .ok (.getfield 19, 3) := by decide +kernel
theorem dX1_founded_52 : decode cX1_founded 52 = .ok (.imul, 1) := by decide +kernel
theorem dX1_founded_53 : decode cX1_founded 53 = .ok (.ireturn, 1) := by decide +kernel
theorem dX1_inherited_0 : decode cX1_inherited 0 = .ok (.iload_n 3, 1) := by decide +kernel
theorem dX1_inherited_1 : decode cX1_inherited 1 = .ok (.ifCond .ne 13, 3) := by decide +kernel
theorem dX1_inherited_4 : decode cX1_inherited 4 = .ok (.iconst 2, 1) := by decide +kernel
theorem dX1_inherited_5 : decode cX1_inherited 5 = .ok (.iload_n 1, 1) := by decide +kernel
theorem dX1_inherited_6 : decode cX1_inherited 6 = .ok (.isub, 1) := by decide +kernel
theorem dX1_inherited_7 : decode cX1_inherited 7 = .ok (.iconst 2, 1) := by decide +kernel
theorem dX1_inherited_8 : decode cX1_inherited 8 = .ok (.iload_n 2, 1) := by decide +kernel
theorem dX1_inherited_9 : decode cX1_inherited 9 = .ok (.isub, 1) := by decide +kernel
theorem dX1_inherited_10 : decode cX1_inherited 10 = .ok (.imul, 1) := by decide +kernel
theorem dX1_inherited_11 : decode cX1_inherited 11 = .ok (.goto 25, 3) := by decide +kernel
theorem dX1_inherited_14 : decode cX1_inherited 14 = .ok (.iload_n 3, 1) := by decide +kernel
theorem dX1_inherited_15 : decode cX1_inherited 15 = .ok (.iconst 1, 1) := by decide +kernel
theorem dX1_inherited_16 : decode cX1_inherited 16 = .ok (.if_icmp .ne 17, 3) := by decide +kernel
theorem dX1_inherited_19 : decode cX1_inherited 19 = .ok (.iload_n 1, 1) := by decide +kernel
theorem dX1_inherited_20 : decode cX1_inherited 20 = .ok (.iconst 2, 1) := by decide +kernel
theorem dX1_inherited_21 : decode cX1_inherited 21 = .ok (.iload_n 2, 1) := by decide +kernel
theorem dX1_inherited_22 : decode cX1_inherited 22 = .ok (.isub, 1) := by decide +kernel
theorem dX1_inherited_23 : decode cX1_inherited 23 = .ok (.imul, 1) := by decide +kernel
theorem dX1_inherited_24 : decode cX1_inherited 24 = .ok (.iconst 2, 1) := by decide +kernel
theorem dX1_inherited_25 : decode cX1_inherited 25 = .ok (.iload_n 1, 1) := by decide +kernel
theorem dX1_inherited_26 : decode cX1_inherited 26 = .ok (.isub, 1) := by decide +kernel
theorem dX1_inherited_27 : decode cX1_inherited 27 = .ok (.iload_n 2, 1) := by decide +kernel
theorem dX1_inherited_28 : decode cX1_inherited 28 = .ok (.imul, 1) := by decide +kernel
theorem dX1_inherited_29 : decode cX1_inherited 29 = .ok (.iadd, 1) := by decide +kernel
theorem dX1_inherited_30 : decode cX1_inherited 30 = .ok (.goto 6, 3) := by decide +kernel
theorem dX1_inherited_33 : decode cX1_inherited 33 = .ok (.iload_n 1, 1) := by decide +kernel
theorem dX1_inherited_34 : decode cX1_inherited 34 = .ok (.iload_n 2, 1) := by decide +kernel
theorem dX1_inherited_35 : decode cX1_inherited 35 = .ok (.imul, 1) := by decide +kernel
theorem dX1_inherited_36 : decode cX1_inherited 36 = .ok (.ireturn, 1) := by decide +kernel
theorem dX1_share_0 : decode cX1_share 0 = .ok (.aload_n 0, 1) := by decide +kernel
theorem dX1_share_1 : decode cX1_share 1 = .ok (.iload_n 1, 1) := by decide +kernel
theorem dX1_share_2 : decode cX1_share 2 = .ok (.iload_n 2, 1) := by decide +kernel
theorem dX1_share_3 : decode cX1_share 3 = .ok (.iload_n 1, 1) := by decide +kernel
theorem dX1_share_4 : decode cX1_share 4 = .ok (.iload_n 2, 1) := by decide +kernel
theorem dX1_share_5 : decode cX1_share 5 = .ok (.invokevirtual 58, 3) := by decide +kernel
theorem dX1_share_8 : decode cX1_share 8 = .ok (.lreturn, 1) := by decide +kernel
theorem dX1_shareOfTwo_0 : decode cX1_shareOfTwo 0 = .ok (.aload_n 0, 1) := by decide +kernel
theorem dX1_shareOfTwo_1 : decode cX1_shareOfTwo 1 = .ok (.iload_n 1, 1) := by decide +kernel
theorem dX1_shareOfTwo_2 : decode cX1_shareOfTwo 2 = .ok (.invokevirtual 30, 3) := by decide +kernel
theorem dX1_shareOfTwo_5 : decode cX1_shareOfTwo 5 = .ok (.ifCond .eq 28, 3) := by decide +kernel
theorem dX1_shareOfTwo_8 : decode cX1_shareOfTwo 8 = .ok (.aload_n 0, 1) := by decide +kernel
theorem dX1_shareOfTwo_9 : decode cX1_shareOfTwo 9 = .ok (.iload_n 3, 1) := by decide +kernel
theorem dX1_shareOfTwo_10 : decode cX1_shareOfTwo 10 = .ok (.invokevirtual 30, 3) := by decide +kernel
theorem dX1_shareOfTwo_13 : decode cX1_shareOfTwo 13 = .ok (.ifCond .eq 20, 3) := by decide +kernel
theorem dX1_shareOfTwo_16 : decode cX1_shareOfTwo 16 = .ok (.aload_n 0, 1) := by decide +kernel
theorem dX1_shareOfTwo_17 : decode cX1_shareOfTwo 17 = .ok (.iload_n 2, 1) := by decide +kernel
theorem dX1_shareOfTwo_18 : decode cX1_shareOfTwo 18 = .ok (.invokevirtual 34, 3) := by decide +kernel
theorem dX1_shareOfTwo_21 : decode cX1_shareOfTwo 21 = .ok (.ifCond .eq 12, 3) := by decide +kernel
theorem dX1_shareOfTwo_24 : decode cX1_shareOfTwo 24 = .ok (.aload_n 0, 1) := by decide +kernel
theorem dX1_shareOfTwo_25 : decode cX1_shareOfTwo 25 = .ok (.iload 4, 2) := by decide +kernel
theorem dX1_shareOfTwo_27 : decode cX1_shareOfTwo 27 = .ok (.invokevirtual 34, 3) := by decide +kernel
theorem dX1_shareOfTwo_30 : decode cX1_shareOfTwo 30 = .ok (.ifCond .ne 5, 3) := by decide +kernel
theorem dX1_shareOfTwo_33 : decode cX1_shareOfTwo 33 = .ok (.lconst 0, 1) := by decide +kernel
theorem dX1_shareOfTwo_34 : decode cX1_shareOfTwo 34 = .ok (.lreturn, 1) := by decide +kernel
theorem dX1_shareOfTwo_35 : decode cX1_shareOfTwo 35 = .ok (.lconst 0, 1) := by decide +kernel
theorem dX1_shareOfTwo_36 : decode cX1_shareOfTwo 36 = .ok (.lstore 5, 2) := by decide +kernel
theorem dX1_shareOfTwo_38 : decode cX1_shareOfTwo 38 = .ok (.aload_n 0, 1) := by decide +kernel
theorem dX1_shareOfTwo_39 : decode cX1_shareOfTwo 39 = .ok (.aload_n 0, 1) := by decide +kernel
theorem dX1_shareOfTwo_40 : decode cX1_shareOfTwo 40 = .ok (.getfield 23, 3) := by decide +kernel
theorem dX1_shareOfTwo_43 : decode cX1_shareOfTwo 43 = .ok (.invokevirtual 37, 3) := by decide +kernel
theorem dX1_shareOfTwo_46 : decode cX1_shareOfTwo 46 = .ok (.istore 7, 2) := by decide +kernel
theorem dX1_shareOfTwo_48 : decode cX1_shareOfTwo 48 = .ok (.iconst 0, 1) := by decide +kernel
theorem dX1_shareOfTwo_49 : decode cX1_shareOfTwo 49 = .ok (.istore 8, 2) := by decide +kernel
theorem dX1_shareOfTwo_51 : decode cX1_shareOfTwo 51 = .ok (.iload 8, 2) := by decide +kernel
theorem dX1_shareOfTwo_53 : decode cX1_shareOfTwo 53 = .ok (.iload 7, 2) := by decide +kernel
theorem dX1_shareOfTwo_55 : decode cX1_shareOfTwo 55 = .ok (.if_icmp .ge 43, 3) := by decide +kernel
theorem dX1_shareOfTwo_58 : decode cX1_shareOfTwo 58 = .ok (.aload_n 0, 1) := by decide +kernel
theorem dX1_shareOfTwo_59 : decode cX1_shareOfTwo 59 = .ok (.iload 8, 2) := by decide +kernel
theorem dX1_shareOfTwo_61 : decode cX1_shareOfTwo 61 = .ok (.iload_n 1, 1) := by decide +kernel
theorem dX1_shareOfTwo_62 : decode cX1_shareOfTwo 62 = .ok (.invokevirtual 41, 3) := by decide +kernel
theorem dX1_shareOfTwo_65 : decode cX1_shareOfTwo 65 = .ok (.iload_n 2, 1) := by decide +kernel
theorem dX1_shareOfTwo_66 : decode cX1_shareOfTwo 66 = .ok (.if_icmp .ne 26, 3) := by decide +kernel
theorem dX1_shareOfTwo_69 : decode cX1_shareOfTwo 69 = .ok (.aload_n 0, 1) := by decide +kernel
theorem dX1_shareOfTwo_70 : decode cX1_shareOfTwo 70 = .ok (.iload 8, 2) := by decide +kernel
theorem dX1_shareOfTwo_72 : decode cX1_shareOfTwo 72 = .ok (.iload_n 3, 1) := by decide +kernel
theorem dX1_shareOfTwo_73 : decode cX1_shareOfTwo 73 = .ok (.invokevirtual 41, 3) := by decide +kernel
theorem dX1_shareOfTwo_76 : decode cX1_shareOfTwo 76 = .ok (.iload 4, 2) := by decide +kernel
theorem dX1_shareOfTwo_78 : decode cX1_shareOfTwo 78 = .ok (.if_icmp .ne 14, 3) := by decide +kernel
theorem dX1_shareOfTwo_81 : decode cX1_shareOfTwo 81 = .ok (.lload 5, 2) := by decide +kernel
theorem dX1_shareOfTwo_83 : decode cX1_shareOfTwo 83 = .ok (.aload_n 0, 1) := by decide +kernel
theorem dX1_shareOfTwo_84 : decode cX1_shareOfTwo 84 = .ok (.iload 8, 2) := by decide +kernel
theorem dX1_shareOfTwo_86 : decode cX1_shareOfTwo 86 = .ok (.invokevirtual 54, 3) := by decide +kernel
theorem dX1_shareOfTwo_89 : decode cX1_shareOfTwo 89 = .ok (.ladd, 1) := by decide +kernel
theorem dX1_shareOfTwo_90 : decode cX1_shareOfTwo 90 = .ok (.lstore 5, 2) := by decide +kernel
theorem dX1_shareOfTwo_92 : decode cX1_shareOfTwo 92 = .ok (.iinc 8 1, 3) := by decide +kernel
theorem dX1_shareOfTwo_95 : decode cX1_shareOfTwo 95 = .ok (.goto (-44), 3) := by decide +kernel
theorem dX1_shareOfTwo_98 : decode cX1_shareOfTwo 98 = .ok (.lload 5, 2) := by decide +kernel
theorem dX1_shareOfTwo_100 : decode cX1_shareOfTwo 100 = .ok (.lreturn, 1) := by decide +kernel
theorem dX1_copies_0 : decode cX1_copies 0 = .ok (.aload_n 0, 1) := by decide +kernel
theorem dX1_copies_1 : decode cX1_copies 1 = .ok (.iload_n 1, 1) := by decide +kernel
theorem dX1_copies_2 : decode cX1_copies 2 = .ok (.invokevirtual 30, 3) := by decide +kernel
theorem dX1_copies_5 : decode cX1_copies 5 = .ok (.ifCond .ne 5, 3) := by decide +kernel
theorem dX1_copies_8 : decode cX1_copies 8 = .ok (.lconst 0, 1) := by decide +kernel
theorem dX1_copies_9 : decode cX1_copies 9 = .ok (.lreturn, 1) := by decide +kernel
theorem dX1_copies_10 : decode cX1_copies 10 = .ok (.lconst 0, 1) := by decide +kernel
theorem dX1_copies_11 : decode cX1_copies 11 = .ok (.lstore_n 2, 1) := by decide +kernel
theorem dX1_copies_12 : decode cX1_copies 12 = .ok (.aload_n 0, 1) := by decide +kernel
theorem dX1_copies_13 : decode cX1_copies 13 = .ok (.aload_n 0, 1) := by decide +kernel
theorem dX1_copies_14 : decode cX1_copies 14 = .ok (.getfield 23, 3) := by decide +kernel
theorem dX1_copies_17 : decode cX1_copies 17 = .ok (.invokevirtual 37, 3) := by decide +kernel
theorem dX1_copies_20 : decode cX1_copies 20 = .ok (.istore 4, 2) := by decide +kernel
theorem dX1_copies_22 : decode cX1_copies 22 = .ok (.iconst 0, 1) := by decide +kernel
theorem dX1_copies_23 : decode cX1_copies 23 = .ok (.istore 5, 2) := by decide +kernel
theorem dX1_copies_25 : decode cX1_copies 25 = .ok (.iload 5, 2) := by decide +kernel
theorem dX1_copies_27 : decode cX1_copies 27 = .ok (.iload 4, 2) := by decide +kernel
theorem dX1_copies_29 : decode cX1_copies 29 = .ok (.if_icmp .ge 27, 3) := by decide +kernel
theorem dX1_copies_32 : decode cX1_copies 32 = .ok (.lload_n 2, 1) := by decide +kernel
theorem dX1_copies_33 : decode cX1_copies 33 = .ok (.aload_n 0, 1) := by decide +kernel
theorem dX1_copies_34 : decode cX1_copies 34 = .ok (.iload 5, 2) := by decide +kernel
theorem dX1_copies_36 : decode cX1_copies 36 = .ok (.invokevirtual 54, 3) := by decide +kernel
theorem dX1_copies_39 : decode cX1_copies 39 = .ok (.aload_n 0, 1) := by decide +kernel
theorem dX1_copies_40 : decode cX1_copies 40 = .ok (.iload 5, 2) := by decide +kernel
theorem dX1_copies_42 : decode cX1_copies 42 = .ok (.iload_n 1, 1) := by decide +kernel
theorem dX1_copies_43 : decode cX1_copies 43 = .ok (.invokevirtual 41, 3) := by decide +kernel
theorem dX1_copies_46 : decode cX1_copies 46 = .ok (.i2l, 1) := by decide +kernel
theorem dX1_copies_47 : decode cX1_copies 47 = .ok (.lmul, 1) := by decide +kernel
theorem dX1_copies_48 : decode cX1_copies 48 = .ok (.ladd, 1) := by decide +kernel
theorem dX1_copies_49 : decode cX1_copies 49 = .ok (.lstore_n 2, 1) := by decide +kernel
theorem dX1_copies_50 : decode cX1_copies 50 = .ok (.iinc 5 1, 3) := by decide +kernel
theorem dX1_copies_53 : decode cX1_copies 53 = .ok (.goto (-28), 3) := by decide +kernel
theorem dX1_copies_56 : decode cX1_copies 56 = .ok (.lload_n 2, 1) := by decide +kernel
theorem dX1_copies_57 : decode cX1_copies 57 = .ok (.lreturn, 1) := by decide +kernel
theorem dX1_possible_0 : decode cX1_possible 0 = .ok (.aload_n 0, 1) := by decide +kernel
theorem dX1_possible_1 : decode cX1_possible 1 = .ok (.iload_n 1, 1) := by decide +kernel
theorem dX1_possible_2 : decode cX1_possible 2 = .ok (.invokevirtual 30, 3) := by decide +kernel
theorem dX1_possible_5 : decode cX1_possible 5 = .ok (.ifCond .ne 5, 3) := by decide +kernel
theorem dX1_possible_8 : decode cX1_possible 8 = .ok (.iconst 0, 1) := by decide +kernel
theorem dX1_possible_9 : decode cX1_possible 9 = .ok (.ireturn, 1) := by decide +kernel
theorem dX1_possible_10 : decode cX1_possible 10 = .ok (.iconst 0, 1) := by decide +kernel
theorem dX1_possible_11 : decode cX1_possible 11 = .ok (.istore_n 2, 1) := by decide +kernel
theorem dX1_possible_12 : decode cX1_possible 12 = .ok (.aload_n 0, 1) := by decide +kernel
theorem dX1_possible_13 : decode cX1_possible 13 = .ok (.aload_n 0, 1) := by decide +kernel
theorem dX1_possible_14 : decode cX1_possible 14 = .ok (.getfield 23, 3) := by decide +kernel
theorem dX1_possible_17 : decode cX1_possible 17 = .ok (.invokevirtual 37, 3) := by decide +kernel
theorem dX1_possible_20 : decode cX1_possible 20 = .ok (.istore_n 3, 1) := by decide +kernel
theorem dX1_possible_21 : decode cX1_possible 21 = .ok (.iconst 0, 1) := by decide +kernel
theorem dX1_possible_22 : decode cX1_possible 22 = .ok (.istore 4, 2) := by decide +kernel
theorem dX1_possible_24 : decode cX1_possible 24 = .ok (.iload 4, 2) := by decide +kernel
theorem dX1_possible_26 : decode cX1_possible 26 = .ok (.iload_n 3, 1) := by decide +kernel
theorem dX1_possible_27 : decode cX1_possible 27 = .ok (.if_icmp .ge 30, 3) := by decide +kernel
theorem dX1_possible_30 : decode cX1_possible 30 = .ok (.aload_n 0, 1) := by decide +kernel
theorem dX1_possible_31 : decode cX1_possible 31 = .ok (.iload 4, 2) := by decide +kernel
theorem dX1_possible_33 : decode cX1_possible 33 = .ok (.invokevirtual 62, 3) := by decide +kernel
theorem dX1_possible_36 : decode cX1_possible 36 = .ok (.ifCond .eq 15, 3) := by decide +kernel
theorem dX1_possible_39 : decode cX1_possible 39 = .ok (.iload_n 2, 1) := by decide +kernel
theorem dX1_possible_40 : decode cX1_possible 40 = .ok (.iconst 1, 1) := by decide +kernel
theorem dX1_possible_41 : decode cX1_possible 41 = .ok (.aload_n 0, 1) := by decide +kernel
theorem dX1_possible_42 : decode cX1_possible 42 = .ok (.iload 4, 2) := by decide +kernel
theorem dX1_possible_44 : decode cX1_possible 44 = .ok (.iload_n 1, 1) := by decide +kernel
theorem dX1_possible_45 : decode cX1_possible 45 = .ok (.invokevirtual 41, 3) := by decide +kernel
theorem dX1_possible_48 : decode cX1_possible 48 = .ok (.ishl, 1) := by decide +kernel
theorem dX1_possible_49 : decode cX1_possible 49 = .ok (.ior, 1) := by decide +kernel
theorem dX1_possible_50 : decode cX1_possible 50 = .ok (.istore_n 2, 1) := by decide +kernel
theorem dX1_possible_51 : decode cX1_possible 51 = .ok (.iinc 4 1, 3) := by decide +kernel
theorem dX1_possible_54 : decode cX1_possible 54 = .ok (.goto (-30), 3) := by decide +kernel
theorem dX1_possible_57 : decode cX1_possible 57 = .ok (.iload_n 2, 1) := by decide +kernel
theorem dX1_possible_58 : decode cX1_possible 58 = .ok (.ireturn, 1) := by decide +kernel
theorem dX1_isPossible_0 : decode cX1_isPossible 0 = .ok (.iconst 0, 1) := by decide +kernel
theorem dX1_isPossible_1 : decode cX1_isPossible 1 = .ok (.istore_n 2, 1) := by decide +kernel
theorem dX1_isPossible_2 : decode cX1_isPossible 2 = .ok (.iload_n 2, 1) := by decide +kernel
theorem dX1_isPossible_3 : decode cX1_isPossible 3 = .ok (.aload_n 0, 1) := by decide +kernel
theorem dX1_isPossible_4 : decode cX1_isPossible 4 = .ok (.getfield 23, 3) := by decide +kernel
theorem dX1_isPossible_7 : decode cX1_isPossible 7 = .ok (.if_icmp .ge 20, 3) := by decide +kernel
theorem dX1_isPossible_10 : decode cX1_isPossible 10 = .ok (.aload_n 0, 1) := by decide +kernel
theorem dX1_isPossible_11 : decode cX1_isPossible 11 = .ok (.iload_n 1, 1) := by decide +kernel
theorem dX1_isPossible_12 : decode cX1_isPossible 12 = .ok (.iload_n 2, 1) := by decide +kernel
theorem dX1_isPossible_13 : decode cX1_isPossible 13 = .ok (.invokevirtual 51, 3) := by decide +kernel
theorem dX1_isPossible_16 : decode cX1_isPossible 16 = .ok (.ifCond .ne 5, 3) := by decide +kernel
theorem dX1_isPossible_19 : decode cX1_isPossible 19 = .ok (.iconst 0, 1) := by decide +kernel
theorem dX1_isPossible_20 : decode cX1_isPossible 20 = .ok (.ireturn, 1) := by decide +kernel
theorem dX1_isPossible_21 : decode cX1_isPossible 21 = .ok (.iinc 2 1, 3) := by decide +kernel
theorem dX1_isPossible_24 : decode cX1_isPossible 24 = .ok (.goto (-22), 3) := by decide +kernel
theorem dX1_isPossible_27 : decode cX1_isPossible 27 = .ok (.iconst 1, 1) := by decide +kernel
theorem dX1_isPossible_28 : decode cX1_isPossible 28 = .ok (.ireturn, 1) := by decide +kernel
theorem dX1_before_0 : decode cX1_before 0 = .ok (.aload_n 0, 1) := by decide +kernel
theorem dX1_before_1 : decode cX1_before 1 = .ok (.iload_n 1, 1) := by decide +kernel
theorem dX1_before_2 : decode cX1_before 2 = .ok (.invokevirtual 30, 3) := by decide +kernel
theorem dX1_before_5 : decode cX1_before 5 = .ok (.ifCond .eq 28, 3) := by decide +kernel
theorem dX1_before_8 : decode cX1_before 8 = .ok (.aload_n 0, 1) := by decide +kernel
theorem dX1_before_9 : decode cX1_before 9 = .ok (.iload_n 2, 1) := by decide +kernel
theorem dX1_before_10 : decode cX1_before 10 = .ok (.invokevirtual 30, 3) := by decide +kernel
theorem dX1_before_13 : decode cX1_before 13 = .ok (.ifCond .eq 20, 3) := by decide +kernel
theorem dX1_before_16 : decode cX1_before 16 = .ok (.aload_n 0, 1) := by decide +kernel
theorem dX1_before_17 : decode cX1_before 17 = .ok (.iload_n 2, 1) := by decide +kernel
theorem dX1_before_18 : decode cX1_before 18 = .ok (.invokevirtual 65, 3) := by decide +kernel
theorem dX1_before_21 : decode cX1_before 21 = .ok (.iload_n 1, 1) := by decide +kernel
theorem dX1_before_22 : decode cX1_before 22 = .ok (.ishr, 1) := by decide +kernel
theorem dX1_before_23 : decode cX1_before 23 = .ok (.iconst 1, 1) := by decide +kernel
theorem dX1_before_24 : decode cX1_before 24 = .ok (.iand, 1) := by decide +kernel
theorem dX1_before_25 : decode cX1_before 25 = .ok (.iconst 1, 1) := by decide +kernel
theorem dX1_before_26 : decode cX1_before 26 = .ok (.if_icmp .ne 7, 3) := by decide +kernel
theorem dX1_before_29 : decode cX1_before 29 = .ok (.iconst 1, 1) := by decide +kernel
theorem dX1_before_30 : decode cX1_before 30 = .ok (.goto 4, 3) := by decide +kernel
theorem dX1_before_33 : decode cX1_before 33 = .ok (.iconst 0, 1) := by decide +kernel
theorem dX1_before_34 : decode cX1_before 34 = .ok (.ireturn, 1) := by decide +kernel
theorem dX1_forefathers_0 : decode cX1_forefathers 0 = .ok (.aload_n 0, 1) := by decide +kernel
theorem dX1_forefathers_1 : decode cX1_forefathers 1 = .ok (.getfield 7, 3) := by decide +kernel
theorem dX1_forefathers_4 : decode cX1_forefathers 4 = .ok (.iload_n 1, 1) := by decide +kernel
theorem dX1_forefathers_5 : decode cX1_forefathers 5 = .ok (.iaload, 1) := by decide +kernel
theorem dX1_forefathers_6 : decode cX1_forefathers 6 = .ok (.ifCond .ge 7, 3) := by decide +kernel
theorem dX1_forefathers_9 : decode cX1_forefathers 9 = .ok (.iconst 0, 1) := by decide +kernel
theorem dX1_forefathers_10 : decode cX1_forefathers 10 = .ok (.goto 20, 3) := by decide +kernel
theorem dX1_forefathers_13 : decode cX1_forefathers 13 = .ok (.iconst 1, 1) := by decide +kernel
theorem dX1_forefathers_14 : decode cX1_forefathers 14 = .ok (.aload_n 0, 1) := by decide +kernel
theorem dX1_forefathers_15 : decode cX1_forefathers 15 = .ok (.getfield 7, 3) := by decide +kernel
theorem dX1_forefathers_18 : decode cX1_forefathers 18 = .ok (.iload_n 1, 1) := by decide +kernel
theorem dX1_forefathers_19 : decode cX1_forefathers 19 = .ok (.iaload, 1) := by decide +kernel
theorem dX1_forefathers_20 : decode cX1_forefathers 20 = .ok (.ishl, 1) := by decide +kernel
theorem dX1_forefathers_21 : decode cX1_forefathers 21 = .ok (.iconst 1, 1) := by decide +kernel
theorem dX1_forefathers_22 : decode cX1_forefathers 22 = .ok (.aload_n 0, 1) := by decide +kernel
theorem dX1_forefathers_23 : decode cX1_forefathers 23 = .ok (.getfield 13, 3) := by decide +kernel
theorem dX1_forefathers_26 : decode cX1_forefathers 26 = .ok (.iload_n 1, 1) := by decide +kernel
theorem dX1_forefathers_27 : decode cX1_forefathers 27 = .ok (.iaload, 1) := by decide +kernel
theorem dX1_forefathers_28 : decode cX1_forefathers 28 = .ok (.ishl, 1) := by decide +kernel
theorem dX1_forefathers_29 : decode cX1_forefathers 29 = .ok (.ior, 1) := by decide +kernel
theorem dX1_forefathers_30 : decode cX1_forefathers 30 = .ok (.istore_n 2, 1) := by decide +kernel
theorem dX1_forefathers_31 : decode cX1_forefathers 31 = .ok (.aload_n 0, 1) := by decide +kernel
theorem dX1_forefathers_32 : decode cX1_forefathers 32 = .ok (.getfield 23, 3) := by decide +kernel
theorem dX1_forefathers_35 : decode cX1_forefathers 35 = .ok (.iconst 1, 1) := by decide +kernel
theorem dX1_forefathers_36 : decode cX1_forefathers 36 = .ok (.isub, 1) := by decide +kernel
theorem dX1_forefathers_37 : decode cX1_forefathers 37 = .ok (.istore_n 3, 1) := by decide +kernel
theorem dX1_forefathers_38 : decode cX1_forefathers 38 = .ok (.iload_n 3, 1) := by decide +kernel
theorem dX1_forefathers_39 : decode cX1_forefathers 39 = .ok (.ifCond .lt 47, 3) := by decide +kernel
theorem dX1_forefathers_42 : decode cX1_forefathers 42 = .ok (.iload_n 2, 1) := by decide +kernel
theorem dX1_forefathers_43 : decode cX1_forefathers 43 = .ok (.iload_n 3, 1) := by decide +kernel
theorem dX1_forefathers_44 : decode cX1_forefathers 44 = .ok (.ishr, 1) := by decide +kernel
theorem dX1_forefathers_45 : decode cX1_forefathers 45 = .ok (.iconst 1, 1) := by decide +kernel
theorem dX1_forefathers_46 : decode cX1_forefathers 46 = .ok (.iand, 1) := by decide +kernel
theorem dX1_forefathers_47 : decode cX1_forefathers 47 = .ok (.iconst 1, 1) := by decide +kernel
theorem dX1_forefathers_48 : decode cX1_forefathers 48 = .ok (.if_icmp .ne 32, 3) := by decide +kernel
theorem dX1_forefathers_51 : decode cX1_forefathers 51 = .ok (.aload_n 0, 1) := by decide +kernel
theorem dX1_forefathers_52 : decode cX1_forefathers 52 = .ok (.getfield 7, 3) := by decide +kernel
theorem dX1_forefathers_55 : decode cX1_forefathers 55 = .ok (.iload_n 3, 1) := by decide +kernel
theorem dX1_forefathers_56 : decode cX1_forefathers 56 = .ok (.iaload, 1) := by decide +kernel
theorem dX1_forefathers_57 : decode cX1_forefathers 57 = .ok (.ifCond .lt 23, 3) := by decide +kernel
theorem dX1_forefathers_60 : decode cX1_forefathers 60 = .ok (.iload_n 2, 1) := by decide +kernel
theorem dX1_forefathers_61 : decode cX1_forefathers 61 = .ok (.iconst 1, 1) := by decide +kernel
theorem dX1_forefathers_62 : decode cX1_forefathers 62 = .ok (.aload_n 0, 1) := by decide +kernel
theorem dX1_forefathers_63 : decode cX1_forefathers 63 = .ok (.getfield 7, 3) := by decide +kernel
theorem dX1_forefathers_66 : decode cX1_forefathers 66 = .ok (.iload_n 3, 1) := by decide +kernel
theorem dX1_forefathers_67 : decode cX1_forefathers 67 = .ok (.iaload, 1) := by decide +kernel
theorem dX1_forefathers_68 : decode cX1_forefathers 68 = .ok (.ishl, 1) := by decide +kernel
theorem dX1_forefathers_69 : decode cX1_forefathers 69 = .ok (.ior, 1) := by decide +kernel
theorem dX1_forefathers_70 : decode cX1_forefathers 70 = .ok (.iconst 1, 1) := by decide +kernel
theorem dX1_forefathers_71 : decode cX1_forefathers 71 = .ok (.aload_n 0, 1) := by decide +kernel
theorem dX1_forefathers_72 : decode cX1_forefathers 72 = .ok (.getfield 13, 3) := by decide +kernel
theorem dX1_forefathers_75 : decode cX1_forefathers 75 = .ok (.iload_n 3, 1) := by decide +kernel
theorem dX1_forefathers_76 : decode cX1_forefathers 76 = .ok (.iaload, 1) := by decide +kernel
theorem dX1_forefathers_77 : decode cX1_forefathers 77 = .ok (.ishl, 1) := by decide +kernel
theorem dX1_forefathers_78 : decode cX1_forefathers 78 = .ok (.ior, 1) := by decide +kernel
theorem dX1_forefathers_79 : decode cX1_forefathers 79 = .ok (.istore_n 2, 1) := by decide +kernel
theorem dX1_forefathers_80 : decode cX1_forefathers 80 = .ok (.iinc 3 (-1), 3) := by decide +kernel
theorem dX1_forefathers_83 : decode cX1_forefathers 83 = .ok (.goto (-45), 3) := by decide +kernel
theorem dX1_forefathers_86 : decode cX1_forefathers 86 = .ok (.iload_n 2, 1) := by decide +kernel
theorem dX1_forefathers_87 : decode cX1_forefathers 87 = .ok (.ireturn, 1) := by decide +kernel
end
section
/-! the law's own entry -/
set_option maxRecDepth 100000
abbrev cL_law : ByteArray := code
theorem dL_law_0 : decode cL_law 0 = .ok (.new 7, 3) := by decide +kernel
theorem dL_law_3 : decode cL_law 3 = .ok (.dup, 1) := by decide +kernel
theorem dL_law_4 : decode cL_law 4 = .ok (.invokespecial 9, 3) := by decide +kernel
theorem dL_law_7 : decode cL_law 7 = .ok (.astore_n 1, 1) := by decide +kernel
theorem dL_law_8 : decode cL_law 8 = .ok (.new 10, 3) := by decide +kernel
theorem dL_law_11 : decode cL_law 11 = .ok (.dup, 1) := by decide +kernel
theorem dL_law_12 : decode cL_law 12 = .ok (.invokespecial 12, 3) := by decide +kernel
theorem dL_law_15 : decode cL_law 15 = .ok (.astore_n 2, 1) := by decide +kernel
theorem dL_law_16 : decode cL_law 16 = .ok (.iconst 0, 1) := by decide +kernel
theorem dL_law_17 : decode cL_law 17 = .ok (.istore_n 3, 1) := by decide +kernel
theorem dL_law_18 : decode cL_law 18 = .ok (.iload_n 3, 1) := by decide +kernel
theorem dL_law_19 : decode cL_law 19 = .ok (.aload_n 0, 1) := by decide +kernel
theorem dL_law_20 : decode cL_law 20 = .ok (.arraylength, 1) := by decide +kernel
theorem dL_law_21 : decode cL_law 21 = .ok (.iconst 5, 1) := by decide +kernel
theorem dL_law_22 : decode cL_law 22 = .ok (.isub, 1) := by decide +kernel
theorem dL_law_23 : decode cL_law 23 = .ok (.if_icmp .gt 436, 3) := by decide +kernel
theorem dL_law_26 : decode cL_law 26 = .ok (.aload_n 0, 1) := by decide +kernel
theorem dL_law_27 : decode cL_law 27 = .ok (.iload_n 3, 1) := by decide +kernel
theorem dL_law_28 : decode cL_law 28 = .ok (.iaload, 1) := by decide +kernel
theorem dL_law_29 : decode cL_law 29 = .ok (.bipush 15, 2) := by decide +kernel
theorem dL_law_31 : decode cL_law 31 = .ok (.iand, 1) := by decide +kernel
theorem dL_law_32 : decode cL_law 32 = .ok (.tableswitch 421 0 12 #[68, 81, 114, 127, 140, 163, 206, 239, 253, 287, 341, 365, 388], 68) := by decide +kernel
theorem dL_law_100 : decode cL_law 100 = .ok (.aload_n 1, 1) := by decide +kernel
theorem dL_law_101 : decode cL_law 101 = .ok (.invokevirtual 13, 3) := by decide +kernel
theorem dL_law_104 : decode cL_law 104 = .ok (.aload_n 2, 1) := by decide +kernel
theorem dL_law_105 : decode cL_law 105 = .ok (.invokevirtual 17, 3) := by decide +kernel
theorem dL_law_108 : decode cL_law 108 = .ok (.if_icmp .eq 345, 3) := by decide +kernel
theorem dL_law_111 : decode cL_law 111 = .ok (.iconst 0, 1) := by decide +kernel
theorem dL_law_112 : decode cL_law 112 = .ok (.ireturn, 1) := by decide +kernel
theorem dL_law_113 : decode cL_law 113 = .ok (.aload_n 1, 1) := by decide +kernel
theorem dL_law_114 : decode cL_law 114 = .ok (.aload_n 0, 1) := by decide +kernel
theorem dL_law_115 : decode cL_law 115 = .ok (.iload_n 3, 1) := by decide +kernel
theorem dL_law_116 : decode cL_law 116 = .ok (.iconst 1, 1) := by decide +kernel
theorem dL_law_117 : decode cL_law 117 = .ok (.iadd, 1) := by decide +kernel
theorem dL_law_118 : decode cL_law 118 = .ok (.iaload, 1) := by decide +kernel
theorem dL_law_119 : decode cL_law 119 = .ok (.aload_n 0, 1) := by decide +kernel
theorem dL_law_120 : decode cL_law 120 = .ok (.iload_n 3, 1) := by decide +kernel
theorem dL_law_121 : decode cL_law 121 = .ok (.iconst 2, 1) := by decide +kernel
theorem dL_law_122 : decode cL_law 122 = .ok (.iadd, 1) := by decide +kernel
theorem dL_law_123 : decode cL_law 123 = .ok (.iaload, 1) := by decide +kernel
theorem dL_law_124 : decode cL_law 124 = .ok (.invokevirtual 18, 3) := by decide +kernel
theorem dL_law_127 : decode cL_law 127 = .ok (.aload_n 2, 1) := by decide +kernel
theorem dL_law_128 : decode cL_law 128 = .ok (.aload_n 0, 1) := by decide +kernel
theorem dL_law_129 : decode cL_law 129 = .ok (.iload_n 3, 1) := by decide +kernel
theorem dL_law_130 : decode cL_law 130 = .ok (.iconst 1, 1) := by decide +kernel
theorem dL_law_131 : decode cL_law 131 = .ok (.iadd, 1) := by decide +kernel
theorem dL_law_132 : decode cL_law 132 = .ok (.iaload, 1) := by decide +kernel
theorem dL_law_133 : decode cL_law 133 = .ok (.aload_n 0, 1) := by decide +kernel
theorem dL_law_134 : decode cL_law 134 = .ok (.iload_n 3, 1) := by decide +kernel
theorem dL_law_135 : decode cL_law 135 = .ok (.iconst 2, 1) := by decide +kernel
theorem dL_law_136 : decode cL_law 136 = .ok (.iadd, 1) := by decide +kernel
theorem dL_law_137 : decode cL_law 137 = .ok (.iaload, 1) := by decide +kernel
theorem dL_law_138 : decode cL_law 138 = .ok (.invokevirtual 22, 3) := by decide +kernel
theorem dL_law_141 : decode cL_law 141 = .ok (.if_icmp .eq 312, 3) := by decide +kernel
theorem dL_law_144 : decode cL_law 144 = .ok (.iconst 0, 1) := by decide +kernel
theorem dL_law_145 : decode cL_law 145 = .ok (.ireturn, 1) := by decide +kernel
theorem dL_law_146 : decode cL_law 146 = .ok (.aload_n 1, 1) := by decide +kernel
theorem dL_law_147 : decode cL_law 147 = .ok (.invokevirtual 23, 3) := by decide +kernel
theorem dL_law_150 : decode cL_law 150 = .ok (.aload_n 2, 1) := by decide +kernel
theorem dL_law_151 : decode cL_law 151 = .ok (.invokevirtual 26, 3) := by decide +kernel
theorem dL_law_154 : decode cL_law 154 = .ok (.if_icmp .eq 299, 3) := by decide +kernel
theorem dL_law_157 : decode cL_law 157 = .ok (.iconst 0, 1) := by decide +kernel
theorem dL_law_158 : decode cL_law 158 = .ok (.ireturn, 1) := by decide +kernel
theorem dL_law_159 : decode cL_law 159 = .ok (.aload_n 1, 1) := by decide +kernel
theorem dL_law_160 : decode cL_law 160 = .ok (.invokevirtual 27, 3) := by decide +kernel
theorem dL_law_163 : decode cL_law 163 = .ok (.aload_n 2, 1) := by decide +kernel
theorem dL_law_164 : decode cL_law 164 = .ok (.invokevirtual 30, 3) := by decide +kernel
theorem dL_law_167 : decode cL_law 167 = .ok (.if_icmp .eq 286, 3) := by decide +kernel
theorem dL_law_170 : decode cL_law 170 = .ok (.iconst 0, 1) := by decide +kernel
theorem dL_law_171 : decode cL_law 171 = .ok (.ireturn, 1) := by decide +kernel
theorem dL_law_172 : decode cL_law 172 = .ok (.aload_n 1, 1) := by decide +kernel
theorem dL_law_173 : decode cL_law 173 = .ok (.aload_n 0, 1) := by decide +kernel
theorem dL_law_174 : decode cL_law 174 = .ok (.iload_n 3, 1) := by decide +kernel
theorem dL_law_175 : decode cL_law 175 = .ok (.iconst 1, 1) := by decide +kernel
theorem dL_law_176 : decode cL_law 176 = .ok (.iadd, 1) := by decide +kernel
theorem dL_law_177 : decode cL_law 177 = .ok (.iaload, 1) := by decide +kernel
theorem dL_law_178 : decode cL_law 178 = .ok (.invokevirtual 31, 3) := by decide +kernel
theorem dL_law_181 : decode cL_law 181 = .ok (.aload_n 2, 1) := by decide +kernel
theorem dL_law_182 : decode cL_law 182 = .ok (.aload_n 0, 1) := by decide +kernel
theorem dL_law_183 : decode cL_law 183 = .ok (.iload_n 3, 1) := by decide +kernel
theorem dL_law_184 : decode cL_law 184 = .ok (.iconst 1, 1) := by decide +kernel
theorem dL_law_185 : decode cL_law 185 = .ok (.iadd, 1) := by decide +kernel
theorem dL_law_186 : decode cL_law 186 = .ok (.iaload, 1) := by decide +kernel
theorem dL_law_187 : decode cL_law 187 = .ok (.invokevirtual 35, 3) := by decide +kernel
theorem dL_law_190 : decode cL_law 190 = .ok (.if_icmp .eq 263, 3) := by decide +kernel
theorem dL_law_193 : decode cL_law 193 = .ok (.iconst 0, 1) := by decide +kernel
theorem dL_law_194 : decode cL_law 194 = .ok (.ireturn, 1) := by decide +kernel
theorem dL_law_195 : decode cL_law 195 = .ok (.aload_n 1, 1) := by decide +kernel
theorem dL_law_196 : decode cL_law 196 = .ok (.aload_n 0, 1) := by decide +kernel
theorem dL_law_197 : decode cL_law 197 = .ok (.iload_n 3, 1) := by decide +kernel
theorem dL_law_198 : decode cL_law 198 = .ok (.iconst 1, 1) := by decide +kernel
theorem dL_law_199 : decode cL_law 199 = .ok (.iadd, 1) := by decide +kernel
theorem dL_law_200 : decode cL_law 200 = .ok (.iaload, 1) := by decide +kernel
theorem dL_law_201 : decode cL_law 201 = .ok (.aload_n 0, 1) := by decide +kernel
theorem dL_law_202 : decode cL_law 202 = .ok (.iload_n 3, 1) := by decide +kernel
theorem dL_law_203 : decode cL_law 203 = .ok (.iconst 2, 1) := by decide +kernel
theorem dL_law_204 : decode cL_law 204 = .ok (.iadd, 1) := by decide +kernel
theorem dL_law_205 : decode cL_law 205 = .ok (.iaload, 1) := by decide +kernel
theorem dL_law_206 : decode cL_law 206 = .ok (.aload_n 0, 1) := by decide +kernel
theorem dL_law_207 : decode cL_law 207 = .ok (.iload_n 3, 1) := by decide +kernel
theorem dL_law_208 : decode cL_law 208 = .ok (.iconst 3, 1) := by decide +kernel
theorem dL_law_209 : decode cL_law 209 = .ok (.iadd, 1) := by decide +kernel
theorem dL_law_210 : decode cL_law 210 = .ok (.iaload, 1) := by decide +kernel
theorem dL_law_211 : decode cL_law 211 = .ok (.invokevirtual 36, 3) := by decide +kernel
theorem dL_law_214 : decode cL_law 214 = .ok (.aload_n 2, 1) := by decide +kernel
theorem dL_law_215 : decode cL_law 215 = .ok (.aload_n 0, 1) := by decide +kernel
theorem dL_law_216 : decode cL_law 216 = .ok (.iload_n 3, 1) := by decide +kernel
theorem dL_law_217 : decode cL_law 217 = .ok (.iconst 1, 1) := by decide +kernel
theorem dL_law_218 : decode cL_law 218 = .ok (.iadd, 1) := by decide +kernel
theorem dL_law_219 : decode cL_law 219 = .ok (.iaload, 1) := by decide +kernel
theorem dL_law_220 : decode cL_law 220 = .ok (.aload_n 0, 1) := by decide +kernel
theorem dL_law_221 : decode cL_law 221 = .ok (.iload_n 3, 1) := by decide +kernel
theorem dL_law_222 : decode cL_law 222 = .ok (.iconst 2, 1) := by decide +kernel
theorem dL_law_223 : decode cL_law 223 = .ok (.iadd, 1) := by decide +kernel
theorem dL_law_224 : decode cL_law 224 = .ok (.iaload, 1) := by decide +kernel
theorem dL_law_225 : decode cL_law 225 = .ok (.aload_n 0, 1) := by decide +kernel
theorem dL_law_226 : decode cL_law 226 = .ok (.iload_n 3, 1) := by decide +kernel
theorem dL_law_227 : decode cL_law 227 = .ok (.iconst 3, 1) := by decide +kernel
theorem dL_law_228 : decode cL_law 228 = .ok (.iadd, 1) := by decide +kernel
theorem dL_law_229 : decode cL_law 229 = .ok (.iaload, 1) := by decide +kernel
theorem dL_law_230 : decode cL_law 230 = .ok (.invokevirtual 40, 3) := by decide +kernel
theorem dL_law_233 : decode cL_law 233 = .ok (.if_icmp .eq 220, 3) := by decide +kernel
theorem dL_law_236 : decode cL_law 236 = .ok (.iconst 0, 1) := by decide +kernel
theorem dL_law_237 : decode cL_law 237 = .ok (.ireturn, 1) := by decide +kernel
theorem dL_law_238 : decode cL_law 238 = .ok (.aload_n 1, 1) := by decide +kernel
theorem dL_law_239 : decode cL_law 239 = .ok (.aload_n 0, 1) := by decide +kernel
theorem dL_law_240 : decode cL_law 240 = .ok (.iload_n 3, 1) := by decide +kernel
theorem dL_law_241 : decode cL_law 241 = .ok (.iconst 1, 1) := by decide +kernel
theorem dL_law_242 : decode cL_law 242 = .ok (.iadd, 1) := by decide +kernel
theorem dL_law_243 : decode cL_law 243 = .ok (.iaload, 1) := by decide +kernel
theorem dL_law_244 : decode cL_law 244 = .ok (.aload_n 0, 1) := by decide +kernel
theorem dL_law_245 : decode cL_law 245 = .ok (.iload_n 3, 1) := by decide +kernel
theorem dL_law_246 : decode cL_law 246 = .ok (.iconst 2, 1) := by decide +kernel
theorem dL_law_247 : decode cL_law 247 = .ok (.iadd, 1) := by decide +kernel
theorem dL_law_248 : decode cL_law 248 = .ok (.iaload, 1) := by decide +kernel
theorem dL_law_249 : decode cL_law 249 = .ok (.invokevirtual 41, 3) := by decide +kernel
theorem dL_law_252 : decode cL_law 252 = .ok (.aload_n 2, 1) := by decide +kernel
theorem dL_law_253 : decode cL_law 253 = .ok (.aload_n 0, 1) := by decide +kernel
theorem dL_law_254 : decode cL_law 254 = .ok (.iload_n 3, 1) := by decide +kernel
theorem dL_law_255 : decode cL_law 255 = .ok (.iconst 1, 1) := by decide +kernel
theorem dL_law_256 : decode cL_law 256 = .ok (.iadd, 1) := by decide +kernel
theorem dL_law_257 : decode cL_law 257 = .ok (.iaload, 1) := by decide +kernel
theorem dL_law_258 : decode cL_law 258 = .ok (.aload_n 0, 1) := by decide +kernel
theorem dL_law_259 : decode cL_law 259 = .ok (.iload_n 3, 1) := by decide +kernel
theorem dL_law_260 : decode cL_law 260 = .ok (.iconst 2, 1) := by decide +kernel
theorem dL_law_261 : decode cL_law 261 = .ok (.iadd, 1) := by decide +kernel
theorem dL_law_262 : decode cL_law 262 = .ok (.iaload, 1) := by decide +kernel
theorem dL_law_263 : decode cL_law 263 = .ok (.invokevirtual 44, 3) := by decide +kernel
theorem dL_law_266 : decode cL_law 266 = .ok (.if_icmp .eq 187, 3) := by decide +kernel
theorem dL_law_269 : decode cL_law 269 = .ok (.iconst 0, 1) := by decide +kernel
theorem dL_law_270 : decode cL_law 270 = .ok (.ireturn, 1) := by decide +kernel
theorem dL_law_271 : decode cL_law 271 = .ok (.aload_n 1, 1) := by decide +kernel
theorem dL_law_272 : decode cL_law 272 = .ok (.invokevirtual 45, 3) := by decide +kernel
theorem dL_law_275 : decode cL_law 275 = .ok (.aload_n 2, 1) := by decide +kernel
theorem dL_law_276 : decode cL_law 276 = .ok (.invokevirtual 49, 3) := by decide +kernel
theorem dL_law_279 : decode cL_law 279 = .ok (.lcmp, 1) := by decide +kernel
theorem dL_law_280 : decode cL_law 280 = .ok (.ifCond .eq 173, 3) := by decide +kernel
theorem dL_law_283 : decode cL_law 283 = .ok (.iconst 0, 1) := by decide +kernel
theorem dL_law_284 : decode cL_law 284 = .ok (.ireturn, 1) := by decide +kernel
theorem dL_law_285 : decode cL_law 285 = .ok (.aload_n 1, 1) := by decide +kernel
theorem dL_law_286 : decode cL_law 286 = .ok (.aload_n 0, 1) := by decide +kernel
theorem dL_law_287 : decode cL_law 287 = .ok (.iload_n 3, 1) := by decide +kernel
theorem dL_law_288 : decode cL_law 288 = .ok (.iconst 1, 1) := by decide +kernel
theorem dL_law_289 : decode cL_law 289 = .ok (.iadd, 1) := by decide +kernel
theorem dL_law_290 : decode cL_law 290 = .ok (.iaload, 1) := by decide +kernel
theorem dL_law_291 : decode cL_law 291 = .ok (.aload_n 0, 1) := by decide +kernel
theorem dL_law_292 : decode cL_law 292 = .ok (.iload_n 3, 1) := by decide +kernel
theorem dL_law_293 : decode cL_law 293 = .ok (.iconst 2, 1) := by decide +kernel
theorem dL_law_294 : decode cL_law 294 = .ok (.iadd, 1) := by decide +kernel
theorem dL_law_295 : decode cL_law 295 = .ok (.iaload, 1) := by decide +kernel
theorem dL_law_296 : decode cL_law 296 = .ok (.invokevirtual 50, 3) := by decide +kernel
theorem dL_law_299 : decode cL_law 299 = .ok (.aload_n 2, 1) := by decide +kernel
theorem dL_law_300 : decode cL_law 300 = .ok (.aload_n 0, 1) := by decide +kernel
theorem dL_law_301 : decode cL_law 301 = .ok (.iload_n 3, 1) := by decide +kernel
theorem dL_law_302 : decode cL_law 302 = .ok (.iconst 1, 1) := by decide +kernel
theorem dL_law_303 : decode cL_law 303 = .ok (.iadd, 1) := by decide +kernel
theorem dL_law_304 : decode cL_law 304 = .ok (.iaload, 1) := by decide +kernel
theorem dL_law_305 : decode cL_law 305 = .ok (.aload_n 0, 1) := by decide +kernel
theorem dL_law_306 : decode cL_law 306 = .ok (.iload_n 3, 1) := by decide +kernel
theorem dL_law_307 : decode cL_law 307 = .ok (.iconst 2, 1) := by decide +kernel
theorem dL_law_308 : decode cL_law 308 = .ok (.iadd, 1) := by decide +kernel
theorem dL_law_309 : decode cL_law 309 = .ok (.iaload, 1) := by decide +kernel
theorem dL_law_310 : decode cL_law 310 = .ok (.invokevirtual 54, 3) := by decide +kernel
theorem dL_law_313 : decode cL_law 313 = .ok (.lcmp, 1) := by decide +kernel
theorem dL_law_314 : decode cL_law 314 = .ok (.ifCond .eq 139, 3) := by decide +kernel
theorem dL_law_317 : decode cL_law 317 = .ok (.iconst 0, 1) := by decide +kernel
theorem dL_law_318 : decode cL_law 318 = .ok (.ireturn, 1) := by decide +kernel
theorem dL_law_319 : decode cL_law 319 = .ok (.aload_n 1, 1) := by decide +kernel
theorem dL_law_320 : decode cL_law 320 = .ok (.aload_n 0, 1) := by decide +kernel
theorem dL_law_321 : decode cL_law 321 = .ok (.iload_n 3, 1) := by decide +kernel
theorem dL_law_322 : decode cL_law 322 = .ok (.iconst 1, 1) := by decide +kernel
theorem dL_law_323 : decode cL_law 323 = .ok (.iadd, 1) := by decide +kernel
theorem dL_law_324 : decode cL_law 324 = .ok (.iaload, 1) := by decide +kernel
theorem dL_law_325 : decode cL_law 325 = .ok (.aload_n 0, 1) := by decide +kernel
theorem dL_law_326 : decode cL_law 326 = .ok (.iload_n 3, 1) := by decide +kernel
theorem dL_law_327 : decode cL_law 327 = .ok (.iconst 2, 1) := by decide +kernel
theorem dL_law_328 : decode cL_law 328 = .ok (.iadd, 1) := by decide +kernel
theorem dL_law_329 : decode cL_law 329 = .ok (.iaload, 1) := by decide +kernel
theorem dL_law_330 : decode cL_law 330 = .ok (.aload_n 0, 1) := by decide +kernel
theorem dL_law_331 : decode cL_law 331 = .ok (.iload_n 3, 1) := by decide +kernel
theorem dL_law_332 : decode cL_law 332 = .ok (.iconst 3, 1) := by decide +kernel
theorem dL_law_333 : decode cL_law 333 = .ok (.iadd, 1) := by decide +kernel
theorem dL_law_334 : decode cL_law 334 = .ok (.iaload, 1) := by decide +kernel
theorem dL_law_335 : decode cL_law 335 = .ok (.aload_n 0, 1) := by decide +kernel
theorem dL_law_336 : decode cL_law 336 = .ok (.iload_n 3, 1) := by decide +kernel
theorem dL_law_337 : decode cL_law 337 = .ok (.iconst 4, 1) := by decide +kernel
theorem dL_law_338 : decode cL_law 338 = .ok (.iadd, 1) := by decide +kernel
theorem dL_law_339 : decode cL_law 339 = .ok (.iaload, 1) := by decide +kernel
theorem dL_law_340 : decode cL_law 340 = .ok (.invokevirtual 55, 3) := by decide +kernel
theorem dL_law_343 : decode cL_law 343 = .ok (.aload_n 2, 1) := by decide +kernel
theorem dL_law_344 : decode cL_law 344 = .ok (.aload_n 0, 1) := by decide +kernel
theorem dL_law_345 : decode cL_law 345 = .ok (.iload_n 3, 1) := by decide +kernel
theorem dL_law_346 : decode cL_law 346 = .ok (.iconst 1, 1) := by decide +kernel
theorem dL_law_347 : decode cL_law 347 = .ok (.iadd, 1) := by decide +kernel
theorem dL_law_348 : decode cL_law 348 = .ok (.iaload, 1) := by decide +kernel
theorem dL_law_349 : decode cL_law 349 = .ok (.aload_n 0, 1) := by decide +kernel
theorem dL_law_350 : decode cL_law 350 = .ok (.iload_n 3, 1) := by decide +kernel
theorem dL_law_351 : decode cL_law 351 = .ok (.iconst 2, 1) := by decide +kernel
theorem dL_law_352 : decode cL_law 352 = .ok (.iadd, 1) := by decide +kernel
theorem dL_law_353 : decode cL_law 353 = .ok (.iaload, 1) := by decide +kernel
theorem dL_law_354 : decode cL_law 354 = .ok (.aload_n 0, 1) := by decide +kernel
theorem dL_law_355 : decode cL_law 355 = .ok (.iload_n 3, 1) := by decide +kernel
theorem dL_law_356 : decode cL_law 356 = .ok (.iconst 3, 1) := by decide +kernel
theorem dL_law_357 : decode cL_law 357 = .ok (.iadd, 1) := by decide +kernel
theorem dL_law_358 : decode cL_law 358 = .ok (.iaload, 1) := by decide +kernel
theorem dL_law_359 : decode cL_law 359 = .ok (.aload_n 0, 1) := by decide +kernel
theorem dL_law_360 : decode cL_law 360 = .ok (.iload_n 3, 1) := by decide +kernel
theorem dL_law_361 : decode cL_law 361 = .ok (.iconst 4, 1) := by decide +kernel
theorem dL_law_362 : decode cL_law 362 = .ok (.iadd, 1) := by decide +kernel
theorem dL_law_363 : decode cL_law 363 = .ok (.iaload, 1) := by decide +kernel
theorem dL_law_364 : decode cL_law 364 = .ok (.invokevirtual 59, 3) := by decide +kernel
theorem dL_law_367 : decode cL_law 367 = .ok (.lcmp, 1) := by decide +kernel
theorem dL_law_368 : decode cL_law 368 = .ok (.ifCond .eq 85, 3) := by decide +kernel
theorem dL_law_371 : decode cL_law 371 = .ok (.iconst 0, 1) := by decide +kernel
theorem dL_law_372 : decode cL_law 372 = .ok (.ireturn, 1) := by decide +kernel
theorem dL_law_373 : decode cL_law 373 = .ok (.aload_n 1, 1) := by decide +kernel
theorem dL_law_374 : decode cL_law 374 = .ok (.aload_n 0, 1) := by decide +kernel
theorem dL_law_375 : decode cL_law 375 = .ok (.iload_n 3, 1) := by decide +kernel
theorem dL_law_376 : decode cL_law 376 = .ok (.iconst 1, 1) := by decide +kernel
theorem dL_law_377 : decode cL_law 377 = .ok (.iadd, 1) := by decide +kernel
theorem dL_law_378 : decode cL_law 378 = .ok (.iaload, 1) := by decide +kernel
theorem dL_law_379 : decode cL_law 379 = .ok (.invokevirtual 60, 3) := by decide +kernel
theorem dL_law_382 : decode cL_law 382 = .ok (.aload_n 2, 1) := by decide +kernel
theorem dL_law_383 : decode cL_law 383 = .ok (.aload_n 0, 1) := by decide +kernel
theorem dL_law_384 : decode cL_law 384 = .ok (.iload_n 3, 1) := by decide +kernel
theorem dL_law_385 : decode cL_law 385 = .ok (.iconst 1, 1) := by decide +kernel
theorem dL_law_386 : decode cL_law 386 = .ok (.iadd, 1) := by decide +kernel
theorem dL_law_387 : decode cL_law 387 = .ok (.iaload, 1) := by decide +kernel
theorem dL_law_388 : decode cL_law 388 = .ok (.invokevirtual 64, 3) := by decide +kernel
theorem dL_law_391 : decode cL_law 391 = .ok (.lcmp, 1) := by decide +kernel
theorem dL_law_392 : decode cL_law 392 = .ok (.ifCond .eq 61, 3) := by decide +kernel
theorem dL_law_395 : decode cL_law 395 = .ok (.iconst 0, 1) := by decide +kernel
theorem dL_law_396 : decode cL_law 396 = .ok (.ireturn, 1) := by decide +kernel
theorem dL_law_397 : decode cL_law 397 = .ok (.aload_n 1, 1) := by decide +kernel
theorem dL_law_398 : decode cL_law 398 = .ok (.aload_n 0, 1) := by decide +kernel
theorem dL_law_399 : decode cL_law 399 = .ok (.iload_n 3, 1) := by decide +kernel
theorem dL_law_400 : decode cL_law 400 = .ok (.iconst 1, 1) := by decide +kernel
theorem dL_law_401 : decode cL_law 401 = .ok (.iadd, 1) := by decide +kernel
theorem dL_law_402 : decode cL_law 402 = .ok (.iaload, 1) := by decide +kernel
theorem dL_law_403 : decode cL_law 403 = .ok (.invokevirtual 65, 3) := by decide +kernel
theorem dL_law_406 : decode cL_law 406 = .ok (.aload_n 2, 1) := by decide +kernel
theorem dL_law_407 : decode cL_law 407 = .ok (.aload_n 0, 1) := by decide +kernel
theorem dL_law_408 : decode cL_law 408 = .ok (.iload_n 3, 1) := by decide +kernel
theorem dL_law_409 : decode cL_law 409 = .ok (.iconst 1, 1) := by decide +kernel
theorem dL_law_410 : decode cL_law 410 = .ok (.iadd, 1) := by decide +kernel
theorem dL_law_411 : decode cL_law 411 = .ok (.iaload, 1) := by decide +kernel
theorem dL_law_412 : decode cL_law 412 = .ok (.invokevirtual 68, 3) := by decide +kernel
theorem dL_law_415 : decode cL_law 415 = .ok (.if_icmp .eq 38, 3) := by decide +kernel
theorem dL_law_418 : decode cL_law 418 = .ok (.iconst 0, 1) := by decide +kernel
theorem dL_law_419 : decode cL_law 419 = .ok (.ireturn, 1) := by decide +kernel
theorem dL_law_420 : decode cL_law 420 = .ok (.aload_n 1, 1) := by decide +kernel
theorem dL_law_421 : decode cL_law 421 = .ok (.aload_n 0, 1) := by decide +kernel
theorem dL_law_422 : decode cL_law 422 = .ok (.iload_n 3, 1) := by decide +kernel
theorem dL_law_423 : decode cL_law 423 = .ok (.iconst 1, 1) := by decide +kernel
theorem dL_law_424 : decode cL_law 424 = .ok (.iadd, 1) := by decide +kernel
theorem dL_law_425 : decode cL_law 425 = .ok (.iaload, 1) := by decide +kernel
theorem dL_law_426 : decode cL_law 426 = .ok (.aload_n 0, 1) := by decide +kernel
theorem dL_law_427 : decode cL_law 427 = .ok (.iload_n 3, 1) := by decide +kernel
theorem dL_law_428 : decode cL_law 428 = .ok (.iconst 2, 1) := by decide +kernel
theorem dL_law_429 : decode cL_law 429 = .ok (.iadd, 1) := by decide +kernel
theorem dL_law_430 : decode cL_law 430 = .ok (.iaload, 1) := by decide +kernel
theorem dL_law_431 : decode cL_law 431 = .ok (.invokevirtual 69, 3) := by decide +kernel
theorem dL_law_434 : decode cL_law 434 = .ok (.aload_n 2, 1) := by decide +kernel
theorem dL_law_435 : decode cL_law 435 = .ok (.aload_n 0, 1) := by decide +kernel
theorem dL_law_436 : decode cL_law 436 = .ok (.iload_n 3, 1) := by decide +kernel
theorem dL_law_437 : decode cL_law 437 = .ok (.iconst 1, 1) := by decide +kernel
theorem dL_law_438 : decode cL_law 438 = .ok (.iadd, 1) := by decide +kernel
theorem dL_law_439 : decode cL_law 439 = .ok (.iaload, 1) := by decide +kernel
theorem dL_law_440 : decode cL_law 440 = .ok (.aload_n 0, 1) := by decide +kernel
theorem dL_law_441 : decode cL_law 441 = .ok (.iload_n 3, 1) := by decide +kernel
theorem dL_law_442 : decode cL_law 442 = .ok (.iconst 2, 1) := by decide +kernel
theorem dL_law_443 : decode cL_law 443 = .ok (.iadd, 1) := by decide +kernel
theorem dL_law_444 : decode cL_law 444 = .ok (.iaload, 1) := by decide +kernel
theorem dL_law_445 : decode cL_law 445 = .ok (.invokevirtual 73, 3) := by decide +kernel
theorem dL_law_448 : decode cL_law 448 = .ok (.if_icmp .eq 5, 3) := by decide +kernel
theorem dL_law_451 : decode cL_law 451 = .ok (.iconst 0, 1) := by decide +kernel
theorem dL_law_452 : decode cL_law 452 = .ok (.ireturn, 1) := by decide +kernel
theorem dL_law_453 : decode cL_law 453 = .ok (.iinc 3 5, 3) := by decide +kernel
theorem dL_law_456 : decode cL_law 456 = .ok (.goto (-438), 3) := by decide +kernel
theorem dL_law_459 : decode cL_law 459 = .ok (.iconst 1, 1) := by decide +kernel
theorem dL_law_460 : decode cL_law 460 = .ok (.ireturn, 1) := by decide +kernel
end
section
/-! bits of small sets -/
def pp_bt (S p : Nat) : Nat := S / 2 ^ p % 2
theorem pp_bt_lt (S p : Nat) : pp_bt S p < 2 := Nat.mod_lt _ (by decide)
theorem pp_bt_01 (S p : Nat) : pp_bt S p = 0 ∨ pp_bt S p = 1 := by have := pp_bt_lt S p; omega
theorem pp_bt_tb (S p : Nat) : pp_bt S p = 1 ↔ S.testBit p = true := by
  unfold pp_bt
  rw [Nat.testBit_eq_decide_div_mod_eq]
  simp
theorem pp_bt_or (S T p : Nat) : pp_bt (S ||| T) p = 1 ↔ pp_bt S p = 1 ∨ pp_bt T p = 1 := by
  rw [pp_bt_tb, pp_bt_tb, pp_bt_tb, Nat.testBit_or, Bool.or_eq_true]
theorem pp_bt_pow (p q : Nat) : pp_bt (2 ^ p) q = 1 ↔ q = p := by
  rw [pp_bt_tb, Nat.testBit_two_pow]
  simp [eq_comm]
theorem pp_bt_0 (p : Nat) : pp_bt 0 p = 0 := by simp [pp_bt]
def pp_sz (S : Nat) : Nat → Nat
  | 0 => 0
  | p + 1 => pp_sz S p + pp_bt S p
theorem pp_sz_le (S : Nat) : ∀ n, pp_sz S n ≤ n
  | 0 => Nat.le_refl 0
  | n + 1 => by
    have h1 := pp_sz_le S n
    have h2 := pp_bt_lt S n
    rw [pp_sz]
    omega
theorem pp_sz_mono {S T : Nat} : ∀ n, (∀ q, q < n → pp_bt S q = 1 → pp_bt T q = 1) → pp_sz S n ≤ pp_sz T n
  | 0, _ => Nat.le_refl 0
  | n + 1, h => by
    have h1 := pp_sz_mono n (fun q hq => h q (by omega))
    have h2 := h n (by omega)
    rw [pp_sz, pp_sz]
    rcases pp_bt_01 S n with e | e
    · omega
    · have := h2 e
      omega
theorem pp_sz_step (S n : Nat) : pp_sz S n ≤ pp_sz S (n + 1) := by rw [pp_sz]; omega
/-! the place of an entry -/
def pp_G (g : Nat → Nat) : Prop := ∀ p, g p < 3
def pp_pf (S : Nat) (g : Nat → Nat) : Nat → Nat → Nat
  | 0, _ => 0
  | j + 1, n => if pp_bt S n = 1 then pp_pf S g j (n + 1) * 3 + g n else pp_pf S g j (n + 1)
def pp_pl (S : Nat) (g : Nat → Nat) : Nat := pp_pf S g 7 0
def pp_rest (S k : Nat) : Nat → Nat
  | 0 => k
  | p + 1 => if pp_bt S p = 1 then pp_rest S k p / 3 else pp_rest S k p
def pp_spr (S k : Nat) (g : Nat → Nat) (n : Nat) : Nat → Nat := fun p => if p < n ∧ pp_bt S p = 1 then pp_rest S k p % 3 else g p
theorem pp_rest_pl {S : Nat} {g : Nat → Nat} (hg : pp_G g) : ∀ p, p ≤ 7 → pp_rest S (pp_pl S g) p = pp_pf S g (7 - p) p := by
  intro p
  induction p with
  | zero => intro _; rfl
  | succ p ih =>
    intro h
    have e : 7 - p = (7 - (p + 1)) + 1 := by omega
    have h1 := ih (by omega)
    rw [e, pp_pf] at h1
    rw [pp_rest, h1]
    have h2 := hg p
    by_cases hb : pp_bt S p = 1
    · rw [if_pos hb, if_pos hb]
      omega
    · rw [if_neg hb, if_neg hb]
theorem pp_spr_pl {S : Nat} {g : Nat → Nat} (hg : pp_G g) (g' : Nat → Nat) {p : Nat} (hp : p < 7) (hb : pp_bt S p = 1) : pp_spr S (pp_pl S g) g' 7 p = g p := by
  unfold pp_spr
  rw [if_pos ⟨hp, hb⟩, pp_rest_pl hg p (by omega), show 7 - p = (6 - p) + 1 by omega, pp_pf, if_pos hb]
  have h2 := hg p
  omega
theorem pp_pf_lt {S : Nat} {g : Nat → Nat} (hg : pp_G g) : ∀ j n, (pp_pf S g j n + 1) * 3 ^ pp_sz S n ≤ 3 ^ pp_sz S (n + j)
  | 0, n => by rw [pp_pf]; simp
  | j + 1, n => by
    have h1 := pp_pf_lt (S := S) hg j (n + 1)
    rw [show n + 1 + j = n + (j + 1) by omega, pp_sz] at h1
    rw [pp_pf]
    have h2 := hg n
    by_cases hb : pp_bt S n = 1
    · rw [if_pos hb]
      rw [hb, Nat.pow_succ] at h1
      refine Nat.le_trans ?_ h1
      have h3 : pp_pf S g j (n + 1) * 3 + g n + 1 ≤ (pp_pf S g j (n + 1) + 1) * 3 := by omega
      have h4 := Nat.mul_le_mul_right (3 ^ pp_sz S n) h3
      rw [Nat.mul_assoc, Nat.mul_comm 3] at h4
      exact h4
    · rw [if_neg hb]
      have h0 : pp_bt S n = 0 := by have := pp_bt_lt S n; omega
      rw [h0] at h1
      exact h1
theorem pp_pl_lt {S : Nat} {g : Nat → Nat} (hg : pp_G g) : pp_pl S g < 3 ^ pp_sz S 7 := by
  have h := pp_pf_lt (S := S) hg 7 0
  rw [show pp_sz S 0 = 0 from rfl, Nat.pow_zero, Nat.mul_one, Nat.zero_add] at h
  exact h
theorem pp_pf_congr {S : Nat} {g g' : Nat → Nat} : ∀ j n, (∀ p, n ≤ p → p < n + j → pp_bt S p = 1 → g p = g' p) → pp_pf S g j n = pp_pf S g' j n
  | 0, _, _ => rfl
  | j + 1, n, h => by
    rw [pp_pf, pp_pf, pp_pf_congr j (n + 1) (fun p h1 h2 => h p (by omega) (by omega))]
    by_cases hb : pp_bt S n = 1
    · rw [if_pos hb, if_pos hb, h n (Nat.le_refl n) (by omega) hb]
    · rw [if_neg hb, if_neg hb]
theorem pp_pl_congr {S : Nat} {g g' : Nat → Nat} (h : ∀ p, p < 7 → pp_bt S p = 1 → g p = g' p) : pp_pl S g = pp_pl S g' := pp_pf_congr 7 0 (fun p _ h2 => h p (by omega))
theorem pp_pf_0 (g : Nat → Nat) : ∀ j n, pp_pf 0 g j n = 0
  | 0, _ => rfl
  | j + 1, n => by rw [pp_pf, pp_bt_0, if_neg (by decide), pp_pf_0 g j]
theorem pp_pl_0 (g : Nat → Nat) : pp_pl 0 g = 0 := pp_pf_0 g 7 0
theorem pp_rest_le (S k : Nat) : ∀ p, pp_rest S k p ≤ k
  | 0 => Nat.le_refl k
  | p + 1 => by
    have h := pp_rest_le S k p
    rw [pp_rest]
    by_cases hb : pp_bt S p = 1
    · rw [if_pos hb]; omega
    · rw [if_neg hb]; exact h
theorem pp_up_self {α : Type} (f : Nat → α) (k : Nat) (v : α) : va_up f k v k = v := by simp [va_up]
theorem pp_up_ne {α : Type} (f : Nat → α) {k j : Nat} (v : α) (h : j ≠ k) : va_up f k v j = f j := by simp [va_up, h]
theorem pp_up_comm {α : Type} (f : Nat → α) {i j : Nat} (x y : α) (h : i ≠ j) : va_up (va_up f i x) j y = va_up (va_up f j y) i x := by
  funext q
  by_cases h1 : q = i
  · subst h1
    rw [pp_up_self, pp_up_ne _ _ h, pp_up_self]
  · by_cases h2 : q = j
    · subst h2
      rw [pp_up_self, pp_up_ne _ _ h1, pp_up_self]
    · rw [pp_up_ne _ _ h2, pp_up_ne _ _ h1, pp_up_ne _ _ h1, pp_up_ne _ _ h2]
theorem pp_G_up {g : Nat → Nat} (hg : pp_G g) {k v : Nat} (hv : v < 3) : pp_G (va_up g k v) := by
  intro p
  by_cases h : p = k
  · subst h; rw [pp_up_self]; exact hv
  · rw [pp_up_ne _ _ h]; exact hg p
theorem pp_G_0 : pp_G (fun _ => 0) := fun _ => Nat.zero_lt_succ 2
theorem pp_spr_G {S k n : Nat} {g : Nat → Nat} (hg : pp_G g) : pp_G (pp_spr S k g n) := by
  intro p
  unfold pp_spr
  by_cases h : p < n ∧ pp_bt S p = 1
  · rw [if_pos h]; exact Nat.mod_lt _ (by decide)
  · rw [if_neg h]; exact hg p
theorem pp_spr_0 (S k : Nat) (g : Nat → Nat) : pp_spr S k g 0 = g := by
  funext p
  unfold pp_spr
  rw [if_neg (by omega)]
theorem pp_spr_s (S k : Nat) (g : Nat → Nat) (n : Nat) (h : pp_bt S n = 1) : pp_spr S k g (n + 1) = va_up (pp_spr S k g n) n (pp_rest S k n % 3) := by
  funext p
  by_cases hp : p = n
  · subst hp
    rw [pp_up_self]
    unfold pp_spr
    rw [if_pos ⟨Nat.lt_succ_self p, h⟩]
  · rw [pp_up_ne _ _ hp]
    unfold pp_spr
    by_cases h1 : p < n ∧ pp_bt S p = 1
    · rw [if_pos h1, if_pos ⟨by omega, h1.2⟩]
    · rw [if_neg h1, if_neg (fun z => h1 ⟨by omega, z.2⟩)]
theorem pp_spr_n (S k : Nat) (g : Nat → Nat) (n : Nat) (h : ¬ pp_bt S n = 1) : pp_spr S k g (n + 1) = pp_spr S k g n := by
  funext p
  unfold pp_spr
  by_cases h1 : p < n ∧ pp_bt S p = 1
  · rw [if_pos h1, if_pos ⟨by omega, h1.2⟩]
  · rw [if_neg h1, if_neg]
    intro z
    by_cases hp : p = n
    · subst hp; exact h z.2
    · exact h1 ⟨by omega, z.2⟩
/-! sums over assignments, products -/
def pp_sum (L : Nat) : Nat → ((Nat → Nat) → Int64) → (Nat → Nat) → Int64
  | 0, F, a => F a
  | n + 1, F, a => if pp_bt L n = 1 then pp_sum L n F (va_up a n 0) + pp_sum L n F (va_up a n 1) + pp_sum L n F (va_up a n 2) else pp_sum L n F a
theorem pp_sum_congr {L : Nat} {F G : (Nat → Nat) → Int64} (h : ∀ a, pp_G a → F a = G a) : ∀ n a, pp_G a → pp_sum L n F a = pp_sum L n G a
  | 0, a, ha => h a ha
  | n + 1, a, ha => by
    rw [pp_sum, pp_sum, pp_sum_congr h n a ha, pp_sum_congr h n _ (pp_G_up ha (k := n) (v := 0) (by decide)), pp_sum_congr h n _ (pp_G_up ha (k := n) (v := 1) (by decide)), pp_sum_congr h n _ (pp_G_up ha (k := n) (v := 2) (by decide))]
theorem pp_sum_bits {L M : Nat} {F : (Nat → Nat) → Int64} : ∀ n a, (∀ q, q < n → pp_bt L q = pp_bt M q) → pp_sum L n F a = pp_sum M n F a
  | 0, _, _ => rfl
  | n + 1, a, h => by
    have ih := fun a => pp_sum_bits (F := F) n a (fun q hq => h q (by omega))
    rw [pp_sum, pp_sum, h n (by omega), ih, ih, ih, ih]
theorem pp_sum_add {L : Nat} {F G : (Nat → Nat) → Int64} : ∀ n a, pp_sum L n (fun a => F a + G a) a = pp_sum L n F a + pp_sum L n G a
  | 0, _ => rfl
  | n + 1, a => by
    have ih := fun a => pp_sum_add (L := L) (F := F) (G := G) n a
    rw [pp_sum, pp_sum, pp_sum, ih, ih, ih, ih]
    by_cases hb : pp_bt L n = 1
    · rw [if_pos hb, if_pos hb, if_pos hb]
      grind
    · rw [if_neg hb, if_neg hb, if_neg hb]
theorem pp_sum_shift {L v d : Nat} {F : (Nat → Nat) → Int64} : ∀ n a, n ≤ v → pp_sum L n (fun a => F (va_up a v d)) a = pp_sum L n F (va_up a v d)
  | 0, _, _ => rfl
  | n + 1, a, h => by
    have ih := fun a => pp_sum_shift (L := L) (v := v) (d := d) (F := F) n a (by omega)
    have hne : n ≠ v := by omega
    rw [pp_sum, pp_sum, ih, ih, ih, ih, pp_up_comm a _ _ hne, pp_up_comm a _ _ hne, pp_up_comm a _ _ hne]
theorem pp_sum_out {L M p : Nat} {F : (Nat → Nat) → Int64} (hp : pp_bt L p = 1) (hM : pp_bt M p = 0) (hq : ∀ q, q ≠ p → pp_bt M q = pp_bt L q) : ∀ n a, p < n → pp_sum L n F a = pp_sum M n (fun a => F (va_up a p 0) + F (va_up a p 1) + F (va_up a p 2)) a
  | 0, _, h => absurd h (by omega)
  | n + 1, a, h => by
    by_cases hn : p = n
    · subst hn
      rw [pp_sum, pp_sum, if_pos hp, if_neg (by rw [hM]; decide)]
      rw [pp_sum_bits (L := M) (M := L) p a (fun q hq' => hq q (by omega))]
      rw [pp_sum_add, pp_sum_add, pp_sum_shift p a (Nat.le_refl p), pp_sum_shift p a (Nat.le_refl p), pp_sum_shift p a (Nat.le_refl p)]
    · have ih := fun a => pp_sum_out (F := F) hp hM hq n a (by omega)
      rw [pp_sum, pp_sum, hq n (fun z => hn z.symm), ih, ih, ih, ih]
def pp_prod (f : Nat → Int64) : Nat → Int64
  | 0 => 1
  | n + 1 => pp_prod f n * f n
theorem pp_prod_congr {f g : Nat → Int64} : ∀ n, (∀ t, t < n → f t = g t) → pp_prod f n = pp_prod g n
  | 0, _ => rfl
  | n + 1, h => by rw [pp_prod, pp_prod, pp_prod_congr n (fun t ht => h t (by omega)), h n (by omega)]
theorem pp_prod_mul (f g : Nat → Int64) : ∀ n, pp_prod (fun t => f t * g t) n = pp_prod f n * pp_prod g n
  | 0 => by rw [pp_prod, pp_prod, pp_prod]; rfl
  | n + 1 => by
    rw [pp_prod, pp_prod, pp_prod, pp_prod_mul f g n]
    grind
end
section
/-! what a person's factor is; the tables, their laws -/
def pp_fw (q g : Nat) : Nat := if g = 0 then (16 - q) * (16 - q) else if g = 1 then 2 * q * (16 - q) else q * q
def pp_ps (g a b : Nat) : Nat := if g = 0 then (2 - a) * (2 - b) else if g = 1 then a * (2 - b) + (2 - a) * b else a * b
def pp_own (qq : Nat) (mq fq : Nat → Nat) (p : Nat) (a : Nat → Nat) : Nat := if mq p = 0 then pp_fw qq (a p) else pp_ps (a p) (a (mq p - 1)) (a (fq p - 1))
def pp_fac (qq : Nat) (mq fq sn : Nat → Nat) (p : Nat) (a : Nat → Nat) : Nat := pp_own qq mq fq p a * sn (3 * p + a p)
def pp_xv (al ow v g : Nat) : Int64 := if pp_bt al g = 0 then 0 else if ow = 0 then lN v else if v = 0 then 0 else 1
def pp_xf (qq : Nat) (mq fq sn al : Nat → Nat) (ow p : Nat) (a : Nat → Nat) : Int64 := pp_xv (al p) ow (pp_fac qq mq fq sn p a) (a p)
def pp_ok (cn qq : Nat) (mq fq sn : Nat → Nat) : Prop := cn ≤ 7 ∧ qq ≤ 16 ∧ (∀ k, sn k ≤ 5) ∧ ∀ p, p < cn → (mq p = 0 ∧ fq p = 0) ∨ (0 < mq p ∧ mq p ≤ p ∧ 0 < fq p ∧ fq p ≤ p ∧ mq p ≠ fq p)
def pp_set (mq fq : Nat → Nat) (p : Nat) : Nat := if mq p = 0 then 2 ^ p else 2 ^ p ||| 2 ^ (mq p - 1) ||| 2 ^ (fq p - 1)
theorem pp_bt_big {S q : Nat} (h : S < 128) (hq : 7 ≤ q) : pp_bt S q = 0 := by
  unfold pp_bt
  have h1 : 2 ^ 7 ≤ 2 ^ q := Nat.pow_le_pow_right (by decide) hq
  rw [Nat.div_eq_of_lt (by omega)]
theorem pp_pow_lt {p : Nat} (h : p < 7) : 2 ^ p < 128 := by
  have h1 : 2 ^ p < 2 ^ 7 := Nat.pow_lt_pow_right (by decide) h
  omega
theorem pp_or_lt {S T : Nat} (h : S < 128) (h2 : T < 128) : S ||| T < 128 := Nat.or_lt_two_pow (n := 7) h h2
theorem pp_bt_lt7 {S q : Nat} (h : S < 128) (hq : pp_bt S q = 1) : q < 7 := by
  rcases Nat.lt_or_ge q 7 with h1 | h1
  · exact h1
  · rw [pp_bt_big h h1] at hq; omega
set_option maxRecDepth 100000 in
theorem pp_sz3 : ∀ p, p < 7 → ∀ a, a < 7 → ∀ b, b < 7 → pp_sz (2 ^ p ||| 2 ^ a ||| 2 ^ b) 7 ≤ 3 := by decide +kernel
set_option maxRecDepth 100000 in
theorem pp_sz1 : ∀ p, p < 7 → pp_sz (2 ^ p) 7 ≤ 3 := by decide +kernel
def pp_clr (S p : Nat) : Nat := S - pp_bt S p * 2 ^ p
set_option maxRecDepth 100000 in
theorem pp_clr_d : ∀ S, S < 128 → ∀ p, p < 7 → pp_bt (pp_clr S p) p = 0 ∧ (pp_bt S p = 1 → pp_sz (pp_clr S p) 7 + 1 = pp_sz S 7) := by decide +kernel
set_option maxRecDepth 100000 in
theorem pp_clr_q : ∀ S, S < 128 → ∀ p, p < 7 → ∀ q, q < 7 → q ≠ p → pp_bt (pp_clr S p) q = pp_bt S q := by decide +kernel
theorem pp_clr_lt {S : Nat} (p : Nat) (h : S < 128) : pp_clr S p < 128 := by unfold pp_clr; omega
theorem pp_clr_ne {S p q : Nat} (h : S < 128) (hp : p < 7) (hq : q ≠ p) : pp_bt (pp_clr S p) q = pp_bt S q := by
  rcases Nat.lt_or_ge q 7 with h1 | h1
  · exact pp_clr_q S h p hp q h1 hq
  · rw [pp_bt_big h h1, pp_bt_big (pp_clr_lt p h) h1]
theorem pp_clr_self {S p : Nat} (h : S < 128) (hp : p < 7) : pp_bt (pp_clr S p) p = 0 := (pp_clr_d S h p hp).1
theorem pp_clr_sz {S p : Nat} (h : S < 128) (hp : p < 7) (hb : pp_bt S p = 1) : pp_sz (pp_clr S p) 7 + 1 = pp_sz S 7 := (pp_clr_d S h p hp).2 hb
set_option maxRecDepth 100000 in
theorem pp_full_sz : ∀ n, n < 8 → pp_sz (2 ^ n - 1) 7 = n ∧ 2 ^ n - 1 < 128 := by decide +kernel
theorem pp_full_bt (n q : Nat) : pp_bt (2 ^ n - 1) q = 1 ↔ q < n := by
  rw [pp_bt_tb, Nat.testBit_two_pow_sub_one]
  simp
theorem pp_set_lt {mq fq : Nat → Nat} {p : Nat} (hp : p < 7) (hm : mq p ≤ p) (hf : fq p ≤ p) : pp_set mq fq p < 128 := by
  unfold pp_set
  by_cases h : mq p = 0
  · rw [if_pos h]; exact pp_pow_lt hp
  · rw [if_neg h]; exact pp_or_lt (pp_or_lt (pp_pow_lt hp) (pp_pow_lt (by omega))) (pp_pow_lt (by omega))
theorem pp_set_sz {mq fq : Nat → Nat} {p : Nat} (hp : p < 7) (hm : mq p ≤ p) (hf : fq p ≤ p) : pp_sz (pp_set mq fq p) 7 ≤ 3 := by
  unfold pp_set
  by_cases h : mq p = 0
  · rw [if_pos h]; exact pp_sz1 p hp
  · rw [if_neg h]; exact pp_sz3 p hp _ (by omega) _ (by omega)
theorem pp_set_self (mq fq : Nat → Nat) (p : Nat) : pp_bt (pp_set mq fq p) p = 1 := by
  unfold pp_set
  by_cases h : mq p = 0
  · rw [if_pos h, pp_bt_pow]
  · rw [if_neg h, pp_bt_or, pp_bt_or, pp_bt_pow]; exact Or.inl (Or.inl rfl)
theorem pp_set_m {mq fq : Nat → Nat} {p : Nat} (h : mq p ≠ 0) : pp_bt (pp_set mq fq p) (mq p - 1) = 1 ∧ pp_bt (pp_set mq fq p) (fq p - 1) = 1 := by
  unfold pp_set
  rw [if_neg h, pp_bt_or, pp_bt_or, pp_bt_or, pp_bt_or, pp_bt_pow, pp_bt_pow, pp_bt_pow, pp_bt_pow, pp_bt_pow, pp_bt_pow]
  exact ⟨Or.inl (Or.inr rfl), Or.inr rfl⟩
theorem pp_set_le {mq fq : Nat → Nat} {p q : Nat} (hm : mq p ≤ p) (hf : fq p ≤ p) (h : pp_bt (pp_set mq fq p) q = 1) : q ≤ p := by
  unfold pp_set at h
  by_cases h0 : mq p = 0
  · rw [if_pos h0, pp_bt_pow] at h; omega
  · rw [if_neg h0, pp_bt_or, pp_bt_or, pp_bt_pow, pp_bt_pow, pp_bt_pow] at h; omega
theorem pp_xf_congr {qq : Nat} {mq fq sn al : Nat → Nat} {ow p : Nat} {a b : Nat → Nat} (h : ∀ q, pp_bt (pp_set mq fq p) q = 1 → a q = b q) : pp_xf qq mq fq sn al ow p a = pp_xf qq mq fq sn al ow p b := by
  have h1 := h p (pp_set_self mq fq p)
  unfold pp_xf pp_fac pp_own
  rw [h1]
  by_cases h0 : mq p = 0
  · rw [if_pos h0, if_pos h0]
  · rw [if_neg h0, if_neg h0, h _ (pp_set_m h0).1, h _ (pp_set_m h0).2]
/-! filling a table -/
def pp_fill (ce : Nat → Int64) (us : Nat) (Y : Nat → Int64) : Nat → Nat → Int64
  | 0 => ce
  | k + 1 => vp_updL (pp_fill ce us Y k) (us + k) (Y k)
theorem pp_fill_lo {ce : Nat → Int64} {us : Nat} {Y : Nat → Int64} : ∀ k i, i < us → pp_fill ce us Y k i = ce i
  | 0, _, _ => rfl
  | k + 1, i, h => by
    rw [pp_fill, pk_uLn (by omega)]
    exact pp_fill_lo k i h
theorem pp_fill_at {ce : Nat → Int64} {us : Nat} {Y : Nat → Int64} : ∀ k j, j < k → pp_fill ce us Y k (us + j) = Y j
  | 0, _, h => absurd h (by omega)
  | k + 1, j, h => by
    rw [pp_fill]
    by_cases hj : j = k
    · subst hj
      exact pk_uLs
    · rw [pk_uLn (by omega)]
      exact pp_fill_at k j (by omega)
/-! the persons' tables -/
def pp_TB (X : Nat → (Nat → Nat) → Int64) (st : Nat → Nat) (n us : Nat) (sc bg : Nat → Nat) (ce : Nat → Int64) : Prop :=
  us ≤ 27 * n ∧ (∀ t, t < n → sc t = st t ∧ bg t + 3 ^ pp_sz (st t) 7 ≤ us ∧ ∀ a, pp_G a → ce (bg t + pp_pl (st t) a) = X t a) ∧ ∀ t u, t < u → u < n → bg t + 3 ^ pp_sz (st t) 7 ≤ bg u
theorem pp_TB_0 (X : Nat → (Nat → Nat) → Int64) (st : Nat → Nat) (sc bg : Nat → Nat) (ce : Nat → Int64) : pp_TB X st 0 0 sc bg ce :=
  ⟨Nat.le_refl 0, fun t h => absurd h (by omega), fun t u _ h => absurd h (by omega)⟩
theorem pp_TB_s {X : Nat → (Nat → Nat) → Int64} {st : Nat → Nat} {n us : Nat} {sc bg : Nat → Nat} {ce : Nat → Int64} (h : pp_TB X st n us sc bg ce) (hsz : pp_sz (st n) 7 ≤ 3) (hlt : st n < 128)
    (hX : ∀ a b, (∀ q, pp_bt (st n) q = 1 → a q = b q) → X n a = X n b) :
    pp_TB X st (n + 1) (us + 3 ^ pp_sz (st n) 7) (va_up sc n (st n)) (va_up bg n us) (pp_fill ce us (fun k => X n (pp_spr (st n) k (fun _ => 0) 7)) (3 ^ pp_sz (st n) 7)) := by
  obtain ⟨h1, h2, h3⟩ := h
  have h27 : 3 ^ pp_sz (st n) 7 ≤ 3 ^ 3 := Nat.pow_le_pow_right (by decide) hsz
  refine ⟨by omega, fun t ht => ?_, fun t u htu hu => ?_⟩
  · by_cases e : t = n
    · subst e
      rw [pp_up_self, pp_up_self]
      refine ⟨rfl, Nat.le_refl _, fun a ha => ?_⟩
      rw [pp_fill_at _ _ (pp_pl_lt ha)]
      exact hX _ _ (fun q hq => pp_spr_pl ha _ (pp_bt_lt7 hlt hq) hq)
    · obtain ⟨k1, k2, k3⟩ := h2 t (by omega)
      rw [pp_up_ne _ _ e, pp_up_ne _ _ e]
      refine ⟨k1, Nat.le_trans k2 (Nat.le_add_right _ _), fun a ha => ?_⟩
      have hl := pp_pl_lt (S := st t) ha
      rw [pp_fill_lo _ _ (by omega)]
      exact k3 a ha
  · have ht : t ≠ n := by omega
    rw [pp_up_ne _ _ ht]
    by_cases e : u = n
    · subst e
      rw [pp_up_self]
      exact (h2 t htu).2.1
    · rw [pp_up_ne _ _ e]
      exact h3 t u htu (by omega)
/-! taking persons out -/
def pp_geo : Nat → Nat
  | 0 => 0
  | m + 1 => pp_geo m + 3 ^ m
def pp_TI (cn L tb us : Nat) (sc bg : Nat → Nat) (ce : Nat → Int64) (tot : Int64) : Prop :=
  (∀ t, t < tb → sc t < 128 ∧ (∀ q, pp_bt (sc t) q = 1 → pp_bt L q = 1) ∧ bg t + 3 ^ pp_sz (sc t) 7 ≤ us) ∧ (∀ t u, t < u → u < tb → bg t + 3 ^ pp_sz (sc t) 7 ≤ bg u) ∧ us + pp_geo (pp_sz L 7) ≤ 1320 ∧ tb + pp_sz L 7 ≤ 14 ∧ pp_sum L cn (fun a => pp_prod (fun t => ce (bg t + pp_pl (sc t) a)) tb) (fun _ => 0) = tot
theorem pp_geo_le : ∀ n, n < 8 → 27 * n + pp_geo n ≤ 1320 := by decide +kernel
theorem pp_TI_of {X : Nat → (Nat → Nat) → Int64} {st : Nat → Nat} {n us : Nat} {sc bg : Nat → Nat} {ce : Nat → Int64} (h : pp_TB X st n us sc bg ce) (hn : n ≤ 7) (hst : ∀ t, t < n → st t < 128 ∧ ∀ q, pp_bt (st t) q = 1 → q ≤ t) :
    pp_TI n (2 ^ n - 1) n us sc bg ce (pp_sum (2 ^ n - 1) n (fun a => pp_prod (fun t => X t a) n) (fun _ => 0)) := by
  obtain ⟨h1, h2, h3⟩ := h
  have hg := pp_geo_le n (by omega)
  rw [pp_TI, (pp_full_sz n (by omega)).1]
  refine ⟨fun t ht => ?_, fun t u htu hu => ?_, by omega, by omega, ?_⟩
  · obtain ⟨k1, k2, k3⟩ := h2 t ht
    rw [k1]
    refine ⟨(hst t ht).1, fun q hq => ?_, k2⟩
    rw [pp_full_bt]
    have := (hst t ht).2 q hq
    omega
  · rw [(h2 t (by omega)).1]
    exact h3 t u htu hu
  · refine pp_sum_congr (fun a ha => ?_) n _ pp_G_0
    refine pp_prod_congr n (fun t ht => ?_)
    rw [(h2 t ht).1]
    exact (h2 t ht).2.2 a ha
def pp_orr (sc : Nat → Nat) (p : Nat) : Nat → Nat
  | 0 => 0
  | t + 1 => if pp_bt (sc t) p = 1 then pp_orr sc p t ||| sc t else pp_orr sc p t
theorem pp_orr_lt {sc : Nat → Nat} {p : Nat} : ∀ n, (∀ t, t < n → sc t < 128) → pp_orr sc p n < 128
  | 0, _ => by rw [pp_orr]; decide
  | n + 1, h => by
    have ih := pp_orr_lt (p := p) n (fun t ht => h t (by omega))
    rw [pp_orr]
    by_cases hb : pp_bt (sc n) p = 1
    · rw [if_pos hb]; exact pp_or_lt ih (h n (by omega))
    · rw [if_neg hb]; exact ih
theorem pp_orr_bt {sc : Nat → Nat} {p q : Nat} : ∀ n, pp_bt (pp_orr sc p n) q = 1 ↔ ∃ t, t < n ∧ pp_bt (sc t) p = 1 ∧ pp_bt (sc t) q = 1
  | 0 => by
    rw [pp_orr, pp_bt_0]
    exact ⟨fun h => absurd h (by decide), fun ⟨t, h, _⟩ => absurd h (by omega)⟩
  | n + 1 => by
    have ih := pp_orr_bt (sc := sc) (p := p) (q := q) n
    rw [pp_orr]
    by_cases hb : pp_bt (sc n) p = 1
    · rw [if_pos hb, pp_bt_or, ih]
      constructor
      · rintro (⟨t, h1, h2⟩ | h)
        · exact ⟨t, by omega, h2⟩
        · exact ⟨n, by omega, hb, h⟩
      · rintro ⟨t, h1, h2, h3⟩
        by_cases e : t = n
        · subst e; exact Or.inr h3
        · exact Or.inl ⟨t, by omega, h2, h3⟩
    · rw [if_neg hb, ih]
      constructor
      · rintro ⟨t, h1, h2⟩
        exact ⟨t, by omega, h2⟩
      · rintro ⟨t, h1, h2, h3⟩
        by_cases e : t = n
        · subst e; exact absurd h2 hb
        · exact ⟨t, by omega, h2, h3⟩
def pp_ar (sc : Nat → Nat) (p n : Nat) : Nat := pp_clr (pp_orr sc p n) p
def pp_cls (sc : Nat → Nat) (p n : Nat) : Nat → Nat := fun i => if i < n ∧ pp_bt (sc i) p = 1 then 0 else sc i
def pp_clc (sc bg : Nat → Nat) (p : Nat) (ce : Nat → Int64) : Nat → Nat → Int64
  | 0 => ce
  | n + 1 => if pp_bt (sc n) p = 1 then vp_updL (pp_clc sc bg p ce n) (bg n) 1 else pp_clc sc bg p ce n
theorem pp_cls_0 (sc : Nat → Nat) (p : Nat) : pp_cls sc p 0 = sc := by
  funext i
  unfold pp_cls
  rw [if_neg (by omega)]
theorem pp_cls_s (sc : Nat → Nat) (p n : Nat) (h : pp_bt (sc n) p = 1) : pp_cls sc p (n + 1) = va_up (pp_cls sc p n) n 0 := by
  funext i
  by_cases hi : i = n
  · subst hi
    rw [pp_up_self]
    unfold pp_cls
    rw [if_pos ⟨Nat.lt_succ_self i, h⟩]
  · rw [pp_up_ne _ _ hi]
    unfold pp_cls
    by_cases h1 : i < n ∧ pp_bt (sc i) p = 1
    · rw [if_pos h1, if_pos ⟨by omega, h1.2⟩]
    · rw [if_neg h1, if_neg (fun z => h1 ⟨by omega, z.2⟩)]
theorem pp_cls_n (sc : Nat → Nat) (p n : Nat) (h : ¬ pp_bt (sc n) p = 1) : pp_cls sc p (n + 1) = pp_cls sc p n := by
  funext i
  unfold pp_cls
  by_cases h1 : i < n ∧ pp_bt (sc i) p = 1
  · rw [if_pos h1, if_pos ⟨by omega, h1.2⟩]
  · rw [if_neg h1, if_neg]
    intro z
    by_cases hi : i = n
    · subst hi; exact h z.2
    · exact h1 ⟨by omega, z.2⟩
theorem pp_cls_at (sc : Nat → Nat) (p n : Nat) : pp_cls sc p n n = sc n := by
  unfold pp_cls
  rw [if_neg (by omega)]
theorem pp_clc_hit {sc bg : Nat → Nat} {p : Nat} {ce : Nat → Int64} {t : Nat} (ht : pp_bt (sc t) p = 1) : ∀ n, t < n → pp_clc sc bg p ce n (bg t) = 1
  | 0, h => absurd h (by omega)
  | n + 1, h => by
    rw [pp_clc]
    by_cases e : t = n
    · subst e
      rw [if_pos ht]
      exact pk_uLs
    · have ih := pp_clc_hit (bg := bg) (ce := ce) ht n (by omega)
      by_cases hb : pp_bt (sc n) p = 1
      · rw [if_pos hb]
        by_cases e2 : bg t = bg n
        · rw [e2]; exact pk_uLs
        · rw [pk_uLn e2]; exact ih
      · rw [if_neg hb]; exact ih
theorem pp_clc_miss {sc bg : Nat → Nat} {p : Nat} {ce : Nat → Int64} {i : Nat} : ∀ n, (∀ t, t < n → pp_bt (sc t) p = 1 → i ≠ bg t) → pp_clc sc bg p ce n i = ce i
  | 0, _ => rfl
  | n + 1, h => by
    have ih := pp_clc_miss (sc := sc) (bg := bg) (p := p) (ce := ce) (i := i) n (fun t ht => h t (by omega))
    rw [pp_clc]
    by_cases hb : pp_bt (sc n) p = 1
    · rw [if_pos hb, pk_uLn (h n (by omega) hb)]; exact ih
    · rw [if_neg hb]; exact ih
/-- the product of the tables that have p -/
def pp_pp (sc bg : Nat → Nat) (ce : Nat → Int64) (p : Nat) (a : Nat → Nat) : Nat → Int64
  | 0 => 1
  | t + 1 => if pp_bt (sc t) p = 1 then pp_pp sc bg ce p a t * ce (bg t + pp_pl (sc t) a) else pp_pp sc bg ce p a t
theorem pp_pp_prod (sc bg : Nat → Nat) (ce : Nat → Int64) (p : Nat) (a : Nat → Nat) : ∀ n, pp_pp sc bg ce p a n = pp_prod (fun t => if pp_bt (sc t) p = 1 then ce (bg t + pp_pl (sc t) a) else 1) n
  | 0 => rfl
  | n + 1 => by
    rw [pp_pp, pp_prod, pp_pp_prod sc bg ce p a n]
    by_cases hb : pp_bt (sc n) p = 1
    · rw [if_pos hb, if_pos hb]
    · rw [if_neg hb, if_neg hb, Int64.mul_one]
theorem pp_pp_congr {sc bg sc' bg' : Nat → Nat} {ce ce' : Nat → Int64} {p : Nat} {a b : Nat → Nat} : ∀ n, (∀ t, t < n → sc' t = sc t ∧ bg' t = bg t) → (∀ t, t < n → pp_bt (sc t) p = 1 → ce' (bg t + pp_pl (sc t) b) = ce (bg t + pp_pl (sc t) a)) → pp_pp sc' bg' ce' p b n = pp_pp sc bg ce p a n
  | 0, _, _ => rfl
  | n + 1, h1, h2 => by
    rw [pp_pp, pp_pp, pp_pp_congr n (fun t ht => h1 t (by omega)) (fun t ht => h2 t (by omega)), (h1 n (by omega)).1, (h1 n (by omega)).2]
    by_cases hb : pp_bt (sc n) p = 1
    · rw [if_pos hb, if_pos hb, h2 n (by omega) hb]
    · rw [if_neg hb, if_neg hb]
/-- the entry of the new table -/
def pp_Y (sc bg : Nat → Nat) (ce : Nat → Int64) (p n : Nat) (a : Nat → Nat) : Int64 := pp_pp sc bg ce p (va_up a p 0) n + pp_pp sc bg ce p (va_up a p 1) n + pp_pp sc bg ce p (va_up a p 2) n
theorem pp_Y_congr {sc bg : Nat → Nat} {ce : Nat → Int64} {p n : Nat} {a b : Nat → Nat} (hp : p < 7) (hs : ∀ t, t < n → sc t < 128) (h : ∀ q, pp_bt (pp_ar sc p n) q = 1 → a q = b q) : pp_Y sc bg ce p n a = pp_Y sc bg ce p n b := by
  have key : ∀ d, pp_pp sc bg ce p (va_up a p d) n = pp_pp sc bg ce p (va_up b p d) n := by
    intro d
    refine pp_pp_congr n (fun t _ => ⟨rfl, rfl⟩) (fun t ht hb => ?_)
    rw [pp_pl_congr (g := va_up a p d) (g' := va_up b p d) (fun q _ hq => ?_)]
    by_cases e : q = p
    · subst e; rw [pp_up_self, pp_up_self]
    · rw [pp_up_ne _ _ e, pp_up_ne _ _ e]
      refine h q ?_
      unfold pp_ar
      rw [pp_clr_ne (pp_orr_lt n hs) hp e, pp_orr_bt]
      exact ⟨t, ht, hb, hq⟩
  unfold pp_Y
  rw [key, key, key]
end
section
theorem pp_pow3_pos (n : Nat) : 1 ≤ 3 ^ n := Nat.one_le_pow _ _ (by decide)
theorem pp_ar_lt {sc : Nat → Nat} (p : Nat) {n : Nat} (hs : ∀ t, t < n → sc t < 128) : pp_ar sc p n < 128 := pp_clr_lt p (pp_orr_lt n hs)
theorem pp_ar_bt {sc : Nat → Nat} {p n q : Nat} (hp : p < 7) (hs : ∀ t, t < n → sc t < 128) (h : pp_bt (pp_ar sc p n) q = 1) : q ≠ p ∧ ∃ t, t < n ∧ pp_bt (sc t) p = 1 ∧ pp_bt (sc t) q = 1 := by
  have hl := pp_orr_lt (p := p) n hs
  unfold pp_ar at h
  by_cases e : q = p
  · subst e
    rw [pp_clr_self hl hp] at h
    exact absurd h (by decide)
  · rw [pp_clr_ne hl hp e, pp_orr_bt] at h
    exact ⟨e, h⟩
/-- the product behind a person taken out -/
theorem pp_prod_out {sc bg : Nat → Nat} {ce : Nat → Int64} {p n : Nat} {f : Nat → Int64} {a : Nat → Nat} (h1 : ∀ t, t < n → pp_bt (sc t) p = 1 → f t = 1) (h2 : ∀ t, t < n → ¬ pp_bt (sc t) p = 1 → f t = ce (bg t + pp_pl (sc t) a)) (h3 : f n = pp_Y sc bg ce p n a) :
    pp_prod f (n + 1) = pp_prod (fun t => ce (bg t + pp_pl (sc t) (va_up a p 0))) n + pp_prod (fun t => ce (bg t + pp_pl (sc t) (va_up a p 1))) n + pp_prod (fun t => ce (bg t + pp_pl (sc t) (va_up a p 2))) n := by
  have key : ∀ d, pp_prod (fun t => ce (bg t + pp_pl (sc t) (va_up a p d))) n = pp_prod f n * pp_pp sc bg ce p (va_up a p d) n := by
    intro d
    rw [pp_pp_prod, ← pp_prod_mul]
    refine pp_prod_congr n (fun t ht => ?_)
    by_cases hb : pp_bt (sc t) p = 1
    · rw [if_pos hb, h1 t ht hb, Int64.one_mul]
    · rw [if_neg hb, h2 t ht hb, Int64.mul_one]
      rw [pp_pl_congr (g := va_up a p d) (g' := a) (fun q _ hq => pp_up_ne _ _ (fun e => hb (e ▸ hq)))]
  rw [key, key, key, pp_prod, h3]
  unfold pp_Y
  generalize pp_prod f n = x
  generalize pp_pp sc bg ce p (va_up a p 0) n = y0
  generalize pp_pp sc bg ce p (va_up a p 1) n = y1
  generalize pp_pp sc bg ce p (va_up a p 2) n = y2
  grind
theorem pp_TI_out {cn L tb us : Nat} {sc bg : Nat → Nat} {ce : Nat → Int64} {tot : Int64} {p : Nat} (h : pp_TI cn L tb us sc bg ce tot) (hcn : cn ≤ 7) (hL : L < 128) (hp : p < cn) (hb : pp_bt L p = 1) :
    pp_TI cn (pp_clr L p) (tb + 1) (us + 3 ^ pp_sz (pp_ar sc p tb) 7) (pp_cls (va_up sc tb (pp_ar sc p tb)) p tb) (va_up bg tb us)
      (pp_clc (va_up sc tb (pp_ar sc p tb)) (va_up bg tb us) p (pp_fill ce us (fun k => pp_Y sc bg ce p tb (pp_spr (pp_ar sc p tb) k (fun _ => 0) 7)) (3 ^ pp_sz (pp_ar sc p tb) 7)) tb) tot := by
  obtain ⟨h1, h2, h3, h4, h5⟩ := h
  have hp7 : p < 7 := by omega
  have hs : ∀ t, t < tb → sc t < 128 := fun t ht => (h1 t ht).1
  have hSlt := pp_ar_lt p hs
  have hSbt : ∀ q, pp_bt (pp_ar sc p tb) q = 1 → pp_bt (pp_clr L p) q = 1 := by
    intro q hq
    obtain ⟨e, t, k1, k2, k3⟩ := pp_ar_bt hp7 hs hq
    rw [pp_clr_ne hL hp7 e]
    exact (h1 t k1).2.1 q k3
  have hsz := pp_clr_sz hL hp7 hb
  have hSsz : pp_sz (pp_ar sc p tb) 7 ≤ pp_sz (pp_clr L p) 7 := pp_sz_mono 7 (fun q _ => hSbt q)
  have hYc : ∀ a b, (∀ q, pp_bt (pp_ar sc p tb) q = 1 → a q = b q) → pp_Y sc bg ce p tb a = pp_Y sc bg ce p tb b := fun a b => pp_Y_congr hp7 hs
  generalize hS : pp_ar sc p tb = S at *
  generalize hY : (fun k => pp_Y sc bg ce p tb (pp_spr S k (fun _ => 0) 7)) = Y
  have hc : ∀ t, t < tb → va_up sc tb S t = sc t := fun t ht => pp_up_ne _ _ (by omega)
  have hg : ∀ t, t < tb → va_up bg tb us t = bg t := fun t ht => pp_up_ne _ _ (by omega)
  have c1 : ∀ t, t < tb → pp_bt (sc t) p = 1 → pp_cls (va_up sc tb S) p tb t = 0 := by
    intro t ht hbt
    unfold pp_cls
    rw [if_pos ⟨ht, by rw [hc t ht]; exact hbt⟩]
  have c2 : ∀ t, t < tb → ¬ pp_bt (sc t) p = 1 → pp_cls (va_up sc tb S) p tb t = sc t := by
    intro t ht hbt
    unfold pp_cls
    rw [if_neg (fun z => hbt (by rw [← hc t ht]; exact z.2)), hc t ht]
  have c3 : pp_cls (va_up sc tb S) p tb tb = S := by rw [pp_cls_at, pp_up_self]
  have c4 : ∀ t, t < tb → 3 ^ pp_sz (pp_cls (va_up sc tb S) p tb t) 7 ≤ 3 ^ pp_sz (sc t) 7 := by
    intro t ht
    by_cases hbt : pp_bt (sc t) p = 1
    · rw [c1 t ht hbt]
      exact Nat.pow_le_pow_right (by decide) (pp_sz_mono 7 (fun q _ hq => by rw [pp_bt_0] at hq; exact absurd hq (by decide)))
    · rw [c2 t ht hbt]
      exact Nat.le_refl _
  refine ⟨fun t ht => ?_, fun t u htu hu => ?_, ?_, by omega, ?_⟩
  · by_cases e : t = tb
    · subst e
      rw [c3, pp_up_self]
      exact ⟨hSlt, hSbt, Nat.le_refl _⟩
    · have ht : t < tb := by omega
      obtain ⟨k1, k2, k3⟩ := h1 t ht
      have k4 := c4 t ht
      rw [hg t ht]
      refine ⟨?_, ?_, Nat.le_trans (Nat.add_le_add_left k4 _) (Nat.le_trans k3 (Nat.le_add_right _ _))⟩
      · by_cases hbt : pp_bt (sc t) p = 1
        · rw [c1 t ht hbt]; decide
        · rw [c2 t ht hbt]; exact k1
      · intro q hq
        by_cases hbt : pp_bt (sc t) p = 1
        · rw [c1 t ht hbt, pp_bt_0] at hq; exact absurd hq (by decide)
        · rw [c2 t ht hbt] at hq
          have e2 : q ≠ p := fun e => hbt (e ▸ hq)
          rw [pp_clr_ne hL hp7 e2]
          exact k2 q hq
  · have ht : t < tb := by omega
    have k4 := c4 t ht
    rw [hg t ht]
    by_cases e : u = tb
    · subst e
      rw [pp_up_self]
      exact Nat.le_trans (Nat.add_le_add_left k4 _) (h1 t ht).2.2
    · rw [hg u (by omega)]
      exact Nat.le_trans (Nat.add_le_add_left k4 _) (h2 t u htu (by omega))
  · have e1 : 3 ^ pp_sz S 7 ≤ 3 ^ pp_sz (pp_clr L p) 7 := Nat.pow_le_pow_right (by decide) hSsz
    rw [← hsz, pp_geo] at h3
    omega
  · rw [← h5, pp_sum_out (p := p) (M := pp_clr L p) hb (pp_clr_self hL hp7) (fun q hq => pp_clr_ne hL hp7 hq) cn _ hp]
    refine pp_sum_congr (fun a ha => ?_) cn _ pp_G_0
    refine pp_prod_out (sc := sc) (bg := bg) (ce := ce) (p := p) (a := a) ?_ ?_ ?_
    · intro t ht hbt
      show pp_clc _ _ _ _ _ _ = 1
      rw [c1 t ht hbt, pp_pl_0, Nat.add_zero]
      exact pp_clc_hit (sc := va_up sc tb S) (by rw [hc t ht]; exact hbt) tb ht
    · intro t ht hbt
      show pp_clc _ _ _ _ _ _ = _
      rw [c2 t ht hbt, hg t ht]
      have hl := pp_pl_lt (S := sc t) ha
      have hr := (h1 t ht).2.2
      rw [pp_clc_miss tb (fun u hu hbu => ?_), pp_fill_lo _ _ (by omega)]
      rw [hc u hu] at hbu
      rw [hg u hu]
      have hne : u ≠ t := fun e => hbt (e ▸ hbu)
      have hpos := pp_pow3_pos (pp_sz (sc u) 7)
      rcases Nat.lt_or_ge u t with hlt | hge
      · have := h2 u t hlt ht
        omega
      · have := h2 t u (by omega) hu
        omega
    · show pp_clc _ _ _ _ _ _ = _
      rw [c3, pp_up_self]
      have hl := pp_pl_lt (S := S) ha
      rw [pp_clc_miss tb (fun u hu hbu => ?_), pp_fill_at _ _ hl, ← hY]
      · exact hYc _ _ (fun q hq => pp_spr_pl ha _ (pp_bt_lt7 hSlt hq) hq)
      · rw [hg u hu]
        have := (h1 u hu).2.2
        have hpos := pp_pow3_pos (pp_sz (sc u) 7)
        omega
theorem pp_sz_0 {S : Nat} : ∀ n, pp_sz S n = 0 → ∀ q, q < n → pp_bt S q = 0
  | 0, _, q, hq => absurd hq (by omega)
  | n + 1, h, q, hq => by
    rw [pp_sz] at h
    by_cases e : q = n
    · subst e; omega
    · exact pp_sz_0 n (by omega) q (by omega)
theorem pp_pf_no {S : Nat} {g : Nat → Nat} (h : ∀ q, ¬ pp_bt S q = 1) : ∀ j n, pp_pf S g j n = 0
  | 0, _ => rfl
  | j + 1, n => by rw [pp_pf, if_neg (h n), pp_pf_no h j]
theorem pp_sum_none {L : Nat} {F : (Nat → Nat) → Int64} : ∀ n a, (∀ q, q < n → pp_bt L q = 0) → pp_sum L n F a = F a
  | 0, _, _ => rfl
  | n + 1, a, h => by
    rw [pp_sum, h n (by omega), if_neg (by decide)]
    exact pp_sum_none n a (fun q hq => h q (by omega))
/-- when all are out, the product of the tables' first entries is the sum -/
theorem pp_TI_end {cn L tb us : Nat} {sc bg : Nat → Nat} {ce : Nat → Int64} {tot : Int64} (h : pp_TI cn L tb us sc bg ce tot) (hcn : cn ≤ 7) (hL : L < 128) (h0 : pp_sz L 7 = 0) : pp_prod (fun t => ce (bg t)) tb = tot := by
  obtain ⟨h1, -, -, -, h5⟩ := h
  have hz : ∀ q, ¬ pp_bt L q = 1 := by
    intro q hq
    have h7 := pp_bt_lt7 hL hq
    rw [pp_sz_0 7 h0 q h7] at hq
    exact absurd hq (by decide)
  rw [pp_sum_none cn _ (fun q hq => pp_sz_0 7 h0 q (by omega))] at h5
  rw [← h5]
  refine pp_prod_congr tb (fun t ht => ?_)
  show ce (bg t) = ce (bg t + pp_pl (sc t) _)
  rw [show pp_pl (sc t) (fun _ => 0) = 0 from pp_pf_no (fun q hq => hz q ((h1 t ht).2.1 q hq)) 7 0, Nat.add_zero]
end
section
/-! numbers -/
theorem pn_or (a b : Nat) : nI a ||| nI b = nI (a ||| b) := by
  apply Int32.toBitVec_inj.1
  show BitVec.ofNat 32 a ||| BitVec.ofNat 32 b = BitVec.ofNat 32 (a ||| b)
  apply BitVec.eq_of_getLsbD_eq
  intro i hi
  simp [hi]
theorem pn_and (a b : Nat) : nI a &&& nI b = nI (a &&& b) := by
  apply Int32.toBitVec_inj.1
  show BitVec.ofNat 32 a &&& BitVec.ofNat 32 b = BitVec.ofNat 32 (a &&& b)
  apply BitVec.eq_of_getLsbD_eq
  intro i hi
  simp [hi]
theorem pn_sh : ∀ n, n < 32 → ((nI n &&& 31).toBitVec.smod 32).toNat = n := by decide +kernel
theorem pn_shr {a k : Nat} (ha : a < 2 ^ 31) (hk : k < 32) : nI a >>> (nI k &&& 31) = nI (a / 2 ^ k) := pk_shrN ha _ k (pn_sh k hk)
theorem pn_and1 {a : Nat} (ha : a < 2 ^ 31) : nI a &&& nI 1 = nI (a % 2) := by
  rw [pk_andN (m := nI 1) (by omega) 1 (by decide)]
theorem pn_shl {k : Nat} (hk : k < 31) : nI 1 <<< (nI k &&& 31) = nI (2 ^ k) := by
  have h : 2 ^ k < 2 ^ 31 := Nat.pow_lt_pow_right (by decide) hk
  rw [pk_shlN _ k (pn_sh k (by omega)) (by omega), Nat.one_mul]
set_option maxRecDepth 100000 in
theorem pn_clr : ∀ S, S < 128 → ∀ p, p < 7 → nI S &&& (nI (2 ^ p) ^^^ (-1)) = nI (pp_clr S p) := by decide +kernel
theorem pn_inc (a : Nat) : nI a + Int32.ofInt 1 = nI (a + 1) := nI_1 a
theorem pn_dec (a : Nat) : nI a + Int32.ofInt (-1) = nI a - 1 := by
  rw [show Int32.ofInt (-1) = (-1 : Int32) from by decide]
  grind
theorem pn_m1 : (-1 : Int32) = nI 0 - 1 := by decide
theorem pn_pr (a : Nat) : nI a = nI (a + 1) - 1 := (nI_pred a).symm
theorem pn_neg {n : Nat} (h : n < 2 ^ 31) : nI n - 1 < 0 ↔ n = 0 := by
  constructor
  · intro h1
    rcases n with _ | k
    · rfl
    · rw [nI_pred] at h1
      exact absurd h1 (nI_pos (by omega))
  · intro h1
    subst h1
    decide
theorem pn_upd (f : Nat → Nat) (i v : Nat) : upd (fun k => nI (f k)) i (nI v) = fun k => nI (va_up f i v k) := by
  funext k
  by_cases h : k = i
  · subst h; rw [pp_up_self]; exact pk_us
  · rw [pp_up_ne _ _ h]; exact pk_un h
theorem pn_updm (f : Nat → Nat) (i v : Nat) : upd (fun k => nI (f k) - 1) i (nI v - 1) = fun k => nI (va_up f i v k) - 1 := by
  funext k
  by_cases h : k = i
  · subst h; rw [pp_up_self]; exact pk_us
  · rw [pp_up_ne _ _ h]; exact pk_un h
section PNR
variable {p : Program} {l : Launch} {e : Env} {R : Room} {s : State} {m : MethodId} {args : Array Value} {below : List Frame} {meth : Method} {c : Code} {H : Heap} {locs : List Loc} {cells slots : Nat} {Q : State → Prop}
variable {cc : ByteArray} {pc nL : Nat} {ls : Array Slot} {rest : List Value}
theorem nr_add (hx : p.tables.exec = Jvm.exec) (hb : c.code = cc) {a b : Nat} (hdg : decode cc pc = .ok (.iadd, 1)) (k : W p l e R s m args below meth c H locs cells slots Q (F0 m (pc + 1) ls (.int (nI (a + b)) :: rest))) : W p l e R s m args below meth c H locs cells slots Q (F0 m pc ls (.int (nI b) :: .int (nI a) :: rest)) := lv_iadd hx hb hdg (by rw [nI_add]; exact k)
theorem nr_mul (hx : p.tables.exec = Jvm.exec) (hb : c.code = cc) {a b : Nat} (hdg : decode cc pc = .ok (.imul, 1)) (k : W p l e R s m args below meth c H locs cells slots Q (F0 m (pc + 1) ls (.int (nI (a * b)) :: rest))) : W p l e R s m args below meth c H locs cells slots Q (F0 m pc ls (.int (nI b) :: .int (nI a) :: rest)) := lv_imul hx hb hdg (by rw [pk_mul]; exact k)
theorem nr_sub (hx : p.tables.exec = Jvm.exec) (hb : c.code = cc) {a b : Nat} (h : b ≤ a) (hdg : decode cc pc = .ok (.isub, 1)) (k : W p l e R s m args below meth c H locs cells slots Q (F0 m (pc + 1) ls (.int (nI (a - b)) :: rest))) : W p l e R s m args below meth c H locs cells slots Q (F0 m pc ls (.int (nI b) :: .int (nI a) :: rest)) := lv_isub hx hb hdg (by rw [pk_sub h]; exact k)
theorem nr_or (hx : p.tables.exec = Jvm.exec) (hb : c.code = cc) {a b : Nat} (hdg : decode cc pc = .ok (.ior, 1)) (k : W p l e R s m args below meth c H locs cells slots Q (F0 m (pc + 1) ls (.int (nI (a ||| b)) :: rest))) : W p l e R s m args below meth c H locs cells slots Q (F0 m pc ls (.int (nI b) :: .int (nI a) :: rest)) := lv_ior hx hb hdg (by rw [pn_or]; exact k)
theorem nr_and (hx : p.tables.exec = Jvm.exec) (hb : c.code = cc) {a b : Nat} (hdg : decode cc pc = .ok (.iand, 1)) (k : W p l e R s m args below meth c H locs cells slots Q (F0 m (pc + 1) ls (.int (nI (a &&& b)) :: rest))) : W p l e R s m args below meth c H locs cells slots Q (F0 m pc ls (.int (nI b) :: .int (nI a) :: rest)) := lv_iand hx hb hdg (by rw [pn_and]; exact k)
theorem nr_shr (hx : p.tables.exec = Jvm.exec) (hb : c.code = cc) {a b : Nat} (ha : a < 2 ^ 31) (hk : b < 32) (hdg : decode cc pc = .ok (.ishr, 1)) (k : W p l e R s m args below meth c H locs cells slots Q (F0 m (pc + 1) ls (.int (nI (a / 2 ^ b)) :: rest))) : W p l e R s m args below meth c H locs cells slots Q (F0 m pc ls (.int (nI b) :: .int (nI a) :: rest)) := lv_ishr hx hb hdg (by rw [pn_shr ha hk]; exact k)
theorem nr_shl1 (hx : p.tables.exec = Jvm.exec) (hb : c.code = cc) {b : Nat} (hk : b < 31) (hdg : decode cc pc = .ok (.ishl, 1)) (k : W p l e R s m args below meth c H locs cells slots Q (F0 m (pc + 1) ls (.int (nI (2 ^ b)) :: rest))) : W p l e R s m args below meth c H locs cells slots Q (F0 m pc ls (.int (nI b) :: .int (nI 1) :: rest)) := lv_ishl hx hb hdg (by rw [pn_shl hk]; exact k)
theorem nr_bt (hx : p.tables.exec = Jvm.exec) (hb : c.code = cc) {S q : Nat} (hS : S < 2 ^ 31) (hdg : decode cc pc = .ok (.iand, 1)) (k : W p l e R s m args below meth c H locs cells slots Q (F0 m (pc + 1) ls (.int (nI (pp_bt S q)) :: rest))) : W p l e R s m args below meth c H locs cells slots Q (F0 m pc ls (.int (nI 1) :: .int (nI (S / 2 ^ q)) :: rest)) := lv_iand hx hb hdg (by rw [pn_and1 (Nat.lt_of_le_of_lt (Nat.div_le_self _ _) hS)]; exact k)
theorem nr_clr (hx : p.tables.exec = Jvm.exec) (hb : c.code = cc) {S q : Nat} (hS : S < 128) (hq : q < 7) (hdg : decode cc pc = .ok (.iand, 1)) (k : W p l e R s m args below meth c H locs cells slots Q (F0 m (pc + 1) ls (.int (nI (pp_clr S q)) :: rest))) : W p l e R s m args below meth c H locs cells slots Q (F0 m pc ls (.int (nI (2 ^ q) ^^^ (-1)) :: .int (nI S) :: rest)) := lv_iand hx hb hdg (by rw [pn_clr S hS q hq]; exact k)
theorem nr_div (hx : p.tables.exec = Jvm.exec) (hb : c.code = cc) {a b : Nat} (ha : a < 2 ^ 31) (h0 : 0 < b) (hb2 : b < 2 ^ 31) (hdg : decode cc pc = .ok (.idiv, 1)) (k : W p l e R s m args below meth c H locs cells slots Q (F0 m (pc + 1) ls (.int (nI (a / b)) :: rest))) : W p l e R s m args below meth c H locs cells slots Q (F0 m pc ls (.int (nI b) :: .int (nI a) :: rest)) := lv_idiv hx hb hdg (nI_ne0 h0 hb2) (by rw [pk_div ha h0 hb2]; exact k)
theorem nr_rem (hx : p.tables.exec = Jvm.exec) (hb : c.code = cc) {a b : Nat} (ha : a < 2 ^ 31) (h0 : 0 < b) (hb2 : b < 2 ^ 31) (hdg : decode cc pc = .ok (.irem, 1)) (k : W p l e R s m args below meth c H locs cells slots Q (F0 m (pc + 1) ls (.int (nI (a % b)) :: rest))) : W p l e R s m args below meth c H locs cells slots Q (F0 m pc ls (.int (nI b) :: .int (nI a) :: rest)) := lv_irem hx hb hdg (nI_ne0 h0 hb2) (by rw [pk_rem ha h0 hb2]; exact k)
theorem nr_i2l (hx : p.tables.exec = Jvm.exec) (hb : c.code = cc) {a : Nat} (ha : a < 2 ^ 31) (hdg : decode cc pc = .ok (.i2l, 1)) (k : W p l e R s m args below meth c H locs cells slots Q (F0 m (pc + 1) ls (.long (lN a) :: rest))) : W p l e R s m args below meth c H locs cells slots Q (F0 m pc ls (.int (nI a) :: rest)) := lv_i2l hx hb hdg (nI_l ha) k
theorem nr_ge (hx : p.tables.exec = Jvm.exec) (hb : c.code = cc) {a b : Nat} {off : Int} {tgt : Nat} (hdg : decode cc pc = .ok (.if_icmp .ge off, 3)) (ht : (pc : Int) + off = (tgt : Int)) (ha : a < 2 ^ 31) (hb2 : b < 2 ^ 31) (kt : b ≤ a → W p l e R s m args below meth c H locs cells slots Q (F0 m tgt ls rest)) (kf : a < b → W p l e R s m args below meth c H locs cells slots Q (F0 m (pc + 3) ls rest)) : W p l e R s m args below meth c H locs cells slots Q (F0 m pc ls (.int (nI b) :: .int (nI a) :: rest)) := lv_icmp_ge hx hb hdg ht (fun h => kt ((nI_leI hb2 ha).mp h)) (fun h => kf (Nat.lt_of_not_le fun z => h ((nI_leI hb2 ha).mpr z)))
theorem nr_lt (hx : p.tables.exec = Jvm.exec) (hb : c.code = cc) {a b : Nat} {off : Int} {tgt : Nat} (hdg : decode cc pc = .ok (.if_icmp .lt off, 3)) (ht : (pc : Int) + off = (tgt : Int)) (ha : a < 2 ^ 31) (hb2 : b < 2 ^ 31) (kt : a < b → W p l e R s m args below meth c H locs cells slots Q (F0 m tgt ls rest)) (kf : b ≤ a → W p l e R s m args below meth c H locs cells slots Q (F0 m (pc + 3) ls rest)) : W p l e R s m args below meth c H locs cells slots Q (F0 m pc ls (.int (nI b) :: .int (nI a) :: rest)) := lv_icmp_lt hx hb hdg ht (fun h => kt ((nI_ltI ha hb2).mp h)) (fun h => kf (Nat.le_of_not_lt fun z => h ((nI_ltI ha hb2).mpr z)))
theorem nr_le (hx : p.tables.exec = Jvm.exec) (hb : c.code = cc) {a b : Nat} {off : Int} {tgt : Nat} (hdg : decode cc pc = .ok (.if_icmp .le off, 3)) (ht : (pc : Int) + off = (tgt : Int)) (ha : a < 2 ^ 31) (hb2 : b < 2 ^ 31) (kt : a ≤ b → W p l e R s m args below meth c H locs cells slots Q (F0 m tgt ls rest)) (kf : b < a → W p l e R s m args below meth c H locs cells slots Q (F0 m (pc + 3) ls rest)) : W p l e R s m args below meth c H locs cells slots Q (F0 m pc ls (.int (nI b) :: .int (nI a) :: rest)) := lv_icmp_le hx hb hdg ht (fun h => kt ((nI_leI ha hb2).mp h)) (fun h => kf (Nat.lt_of_not_le fun z => h ((nI_leI ha hb2).mpr z)))
theorem nr_ne (hx : p.tables.exec = Jvm.exec) (hb : c.code = cc) {a b : Nat} {off : Int} {tgt : Nat} (hdg : decode cc pc = .ok (.if_icmp .ne off, 3)) (ht : (pc : Int) + off = (tgt : Int)) (ha : a < 2 ^ 31) (hb2 : b < 2 ^ 31) (kt : a ≠ b → W p l e R s m args below meth c H locs cells slots Q (F0 m tgt ls rest)) (kf : a = b → W p l e R s m args below meth c H locs cells slots Q (F0 m (pc + 3) ls rest)) : W p l e R s m args below meth c H locs cells slots Q (F0 m pc ls (.int (nI b) :: .int (nI a) :: rest)) := lv_icmp_ne hx hb hdg ht (fun h => kt (fun z => h ((nI_eq ha hb2).mpr z))) (fun h => kf ((nI_eq ha hb2).mp h))
theorem nr_eq (hx : p.tables.exec = Jvm.exec) (hb : c.code = cc) {a b : Nat} {off : Int} {tgt : Nat} (hdg : decode cc pc = .ok (.if_icmp .eq off, 3)) (ht : (pc : Int) + off = (tgt : Int)) (ha : a < 2 ^ 31) (hb2 : b < 2 ^ 31) (kt : a = b → W p l e R s m args below meth c H locs cells slots Q (F0 m tgt ls rest)) (kf : a ≠ b → W p l e R s m args below meth c H locs cells slots Q (F0 m (pc + 3) ls rest)) : W p l e R s m args below meth c H locs cells slots Q (F0 m pc ls (.int (nI b) :: .int (nI a) :: rest)) := lv_icmp_eq hx hb hdg ht (fun h => kt ((nI_eq ha hb2).mp h)) (fun h => kf (fun z => h ((nI_eq ha hb2).mpr z)))
theorem nr_z_ne (hx : p.tables.exec = Jvm.exec) (hb : c.code = cc) {a : Nat} {off : Int} {tgt : Nat} (hdg : decode cc pc = .ok (.ifCond .ne off, 3)) (ht : (pc : Int) + off = (tgt : Int)) (ha : a < 2 ^ 31) (kt : a ≠ 0 → W p l e R s m args below meth c H locs cells slots Q (F0 m tgt ls rest)) (kf : a = 0 → W p l e R s m args below meth c H locs cells slots Q (F0 m (pc + 3) ls rest)) : W p l e R s m args below meth c H locs cells slots Q (F0 m pc ls (.int (nI a) :: rest)) := lv_if_ne hx hb hdg ht (fun h => kt (fun z => h ((nI_eq ha (by decide : 0 < 2 ^ 31)).mpr z))) (fun h => kf ((nI_eq ha (by decide : 0 < 2 ^ 31)).mp h))
theorem nr_z_eq (hx : p.tables.exec = Jvm.exec) (hb : c.code = cc) {a : Nat} {off : Int} {tgt : Nat} (hdg : decode cc pc = .ok (.ifCond .eq off, 3)) (ht : (pc : Int) + off = (tgt : Int)) (ha : a < 2 ^ 31) (kt : a = 0 → W p l e R s m args below meth c H locs cells slots Q (F0 m tgt ls rest)) (kf : a ≠ 0 → W p l e R s m args below meth c H locs cells slots Q (F0 m (pc + 3) ls rest)) : W p l e R s m args below meth c H locs cells slots Q (F0 m pc ls (.int (nI a) :: rest)) := lv_if_eq hx hb hdg ht (fun h => kt ((nI_eq ha (by decide : 0 < 2 ^ 31)).mp h)) (fun h => kf (fun z => h ((nI_eq ha (by decide : 0 < 2 ^ 31)).mpr z)))
theorem nr_m_lt (hx : p.tables.exec = Jvm.exec) (hb : c.code = cc) {a : Nat} {off : Int} {tgt : Nat} (hdg : decode cc pc = .ok (.ifCond .lt off, 3)) (ht : (pc : Int) + off = (tgt : Int)) (ha : a < 2 ^ 31) (kt : a = 0 → W p l e R s m args below meth c H locs cells slots Q (F0 m tgt ls rest)) (kf : a ≠ 0 → W p l e R s m args below meth c H locs cells slots Q (F0 m (pc + 3) ls rest)) : W p l e R s m args below meth c H locs cells slots Q (F0 m pc ls (.int (nI a - 1) :: rest)) := lv_if_lt hx hb hdg ht (fun h => kt ((pn_neg ha).mp h)) (fun h => kf (fun z => h ((pn_neg ha).mpr z)))
theorem nr_m_ge (hx : p.tables.exec = Jvm.exec) (hb : c.code = cc) {a : Nat} {off : Int} {tgt : Nat} (hdg : decode cc pc = .ok (.ifCond .ge off, 3)) (ht : (pc : Int) + off = (tgt : Int)) (ha : a < 2 ^ 31) (kt : a ≠ 0 → W p l e R s m args below meth c H locs cells slots Q (F0 m tgt ls rest)) (kf : a = 0 → W p l e R s m args below meth c H locs cells slots Q (F0 m (pc + 3) ls rest)) : W p l e R s m args below meth c H locs cells slots Q (F0 m pc ls (.int (nI a - 1) :: rest)) := lv_if_ge hx hb hdg ht (fun h => kt (fun z => absurd ((pn_neg ha).mpr z) (Int32.not_lt.mpr h))) (fun h => kf ((pn_neg ha).mp (Int32.not_le.mp h)))
/-- another form of the top -/
theorem nr_top {x y : Int32} (h : x = y) (k : W p l e R s m args below meth c H locs cells slots Q (F0 m pc ls (.int y :: rest))) : W p l e R s m args below meth c H locs cells slots Q (F0 m pc ls (.int x :: rest)) := by rw [h]; exact k
theorem nr_topl {x y : Int64} (h : x = y) (k : W p l e R s m args below meth c H locs cells slots Q (F0 m pc ls (.long y :: rest))) : W p l e R s m args below meth c H locs cells slots Q (F0 m pc ls (.long x :: rest)) := by rw [h]; exact k
end PNR
/-- room for a call -/
def pp_RM (R : Room) (cells slots fr lo : Nat) : Prop := fr ≤ R.frames ∧ lo ≤ R.locals ∧ cells ≤ R.cells ∧ slots ≤ R.slots
theorem pp_RM.le {R : Room} {cells slots fr lo fr' lo' : Nat} (h : pp_RM R cells slots fr lo) (h1 : fr' ≤ fr) (h2 : lo' ≤ lo) : pp_RM R cells slots fr' lo' := ⟨Nat.le_trans h1 h.1, Nat.le_trans h2 h.2.1, h.2.2⟩
theorem pp_D_addr {A : Nat → Prop} {ws ws' : va_W} (h : va_D A ws) (he : ws.map (fun x => x.1) = ws'.map (fun x => x.1)) : va_D A ws' := by
  have key : ∀ (k : Nat) (q : Nat × va_E), ws'[k]? = some q → ∃ q0, ws[k]? = some q0 ∧ q0.1 = q.1 := by
    intro k q hk
    have h1 : (ws'.map (fun x => x.1))[k]? = some q.1 := by rw [List.getElem?_map, hk]; rfl
    rw [← he, List.getElem?_map] at h1
    cases h2 : ws[k]? with
    | none => rw [h2] at h1; cases h1
    | some q0 => rw [h2] at h1; exact ⟨q0, rfl, Option.some.inj h1⟩
  refine ⟨fun i j x y hi hj hxy => ?_, fun k q hk => ?_⟩
  · obtain ⟨x0, h1, h2⟩ := key i x hi
    obtain ⟨y0, h3, h4⟩ := key j y hj
    exact h.1 i j x0 y0 h1 h3 (h2.trans (hxy.trans h4.symm))
  · obtain ⟨q0, h1, h2⟩ := key k q hk
    rw [← h2]
    exact h.2 k q0 h1
theorem pp_D_in {A : Nat → Prop} {ws : va_W} (l : List Nat) (h : va_D A ws) (he : ws.map (fun x => x.1) = l) : va_D (fun q => q ∈ l) ws := by
  refine ⟨h.1, fun k q hk => ?_⟩
  rw [← he]
  exact List.mem_map.mpr ⟨q, List.mem_of_getElem? hk, rfl⟩
theorem pp_D_all {A : Nat → Prop} {ws : va_W} {l : List Nat} (h : va_D A ws) (he : ws.map (fun x => x.1) = l) : ∀ q, q ∈ l → A q := by
  intro q hq
  rw [← he] at hq
  obtain ⟨x, hx, rfl⟩ := List.mem_map.mp hq
  obtain ⟨k, hk⟩ := List.getElem?_of_mem hx
  exact h.2 k x hk
abbrev vwCl : List vw_C := [(RX0, TX0, 13), (RX1, TX1, 5)]
abbrev pp_tys (dA dL : ClassId) : List (ClassId × FieldType) := [(dA, .int), (dL, .long)]
def pp_CX (p : Program) (m : MethodId) (c : Code) (cc : ByteArray) (nL : Nat) (s : State) (args : Array Value) (own : String) (D : va_G) (dA dL : ClassId) : Prop := CallFix p m c cc nL s args lw_all own ∧ va_K D vwCl (pp_tys dA dL) s
/-- a contract's start, over any world -/
def pp_Pc (D : va_G) (dA dL : ClassId) (ws : va_W) (av : List Value) : Array Value → State → Prop := va_Pc av (fun U => va_P D vwCl ws U.heap ∧ va_K D vwCl (pp_tys dA dL) U ∧ va_D (fun _ => True) ws)
theorem pp_blind (D : va_G) (dA dL : ClassId) (ws : va_W) (av : List Value) : FrameBlind (pp_Pc D dA dL ws av) := fun a U g mk q => by
  obtain ⟨q0, qP, qK, qD⟩ := q
  exact ⟨q0, qP, va_K.moved (u := U) (U := U.calling g mk a) (Vm.Alike.refl U.vm) qK, qD⟩
end
section
abbrev pp_WX (dA dL : ClassId) (ad : Nat → Nat) (cn qq : Nat) (mq fq sn al : Nat → Nat) (ow tb us : Nat) (sc bg : Nat → Nat) (ce : Nat → Int64) (ge : Nat → Nat) : va_W := [(ad 0, .inr (0, [.int (nI cn), .int (nI qq), .ref (ad 1), .ref (ad 2), .ref (ad 3), .ref (ad 4), .int (nI ow), .int (nI tb), .int (nI us), .ref (ad 5), .ref (ad 6), .ref (ad 7), .ref (ad 8)])), (ad 1, .inl (dA, 7, .inl (fun k => nI (mq k) - 1))), (ad 2, .inl (dA, 7, .inl (fun k => nI (fq k) - 1))), (ad 3, .inl (dA, 21, .inl (fun k => nI (sn k)))), (ad 4, .inl (dA, 7, .inl (fun k => nI (al k)))), (ad 5, .inl (dA, 16, .inl (fun k => nI (sc k)))), (ad 6, .inl (dA, 16, .inl (fun k => nI (bg k)))), (ad 7, .inl (dL, 1320, .inr (.inl ce))), (ad 8, .inl (dA, 7, .inl (fun k => nI (ge k))))]
abbrev pp_AX (ad : Nat → Nat) : Nat → Prop := fun q => q ∈ [ad 0, ad 1, ad 2, ad 3, ad 4, ad 5, ad 6, ad 7, ad 8]
def pp_IX (D : va_G) (dA dL : ClassId) (ad : Nat → Nat) (A : Nat → Prop) (H0 : Heap) (cn qq : Nat) (mq fq sn al : Nat → Nat) (ow tb us : Nat) (sc bg : Nat → Nat) (ce : Nat → Int64) (ge : Nat → Nat) (H : Heap) (locs : List Loc) : Prop := va_P D vwCl (pp_WX dA dL ad cn qq mq fq sn al ow tb us sc bg ce ge) H ∧ va_D A (pp_WX dA dL ad cn qq mq fq sn al ow tb us sc bg ce ge) ∧ va_S A H0 H locs
section PWX
variable {p : Program} {l : Launch} {e : Env} {R : Room} {s : State} {m : MethodId} {args : Array Value} {below : List Frame} {meth : Method} {c : Code} {H : Heap} {locs : List Loc} {cells slots : Nat} {Q : State → Prop}
variable {cc : ByteArray} {pc nL : Nat} {ls : Array Slot} {rest : List Value}
variable {D : va_G} {dA dL : ClassId} {ad : Nat → Nat} {A : Nat → Prop} {H0 : Heap} {cn qq : Nat} {mq fq sn al : Nat → Nat} {ow tb us : Nat} {sc bg : Nat → Nat} {ce : Nat → Int64} {ge : Nat → Nat}
theorem xg_cn (hC : pp_CX p m c cc nL s args RX0 D dA dL) (hw : pp_IX D dA dL ad A H0 cn qq mq fq sn al ow tb us sc bg ce ge H locs) (hdg : decode cc pc = .ok (.getfield 39, 3)) (k : W p l e R s m args below meth c H locs cells slots Q (F0 m (pc + 3) ls (.int (nI cn) :: rest))) : W p l e R s m args below meth c H locs cells slots Q (F0 m pc ls (.ref (ad 0) :: rest)) := va_get (D := D) (ci := 0) (v := .int (nI cn)) (C := RX0) (T := TX0) (N := 13) hC.1.1 hC.1.2.1 hC.1.2.2.2.2 in_X0 hC.1.2.2.2.1 hC.2 hw.1 0 rfl rfl 0 (by decide) (hC.1.2.2.2.2 _ q40) (fun _ h9 => h9) rfl hdg k
theorem xp_cn (hC : pp_CX p m c cc nL s args RX0 D dA dL) (hw : pp_IX D dA dL ad A H0 cn qq mq fq sn al ow tb us sc bg ce ge H locs) {v : Nat} (hdg : decode cc pc = .ok (.putfield 39, 3)) (k : ∀ (H1 : Heap) (locs1 : List Loc), pp_IX D dA dL ad A H0 v qq mq fq sn al ow tb us sc bg ce ge H1 locs1 → W p l e R s m args below meth c H1 locs1 cells slots Q (F0 m (pc + 3) ls rest)) : W p l e R s m args below meth c H locs cells slots Q (F0 m pc ls (.int (nI v) :: .ref (ad 0) :: rest)) := va_put (D := D) (ci := 0) (v := .int (nI v)) (ty := .int) (C := RX0) (T := TX0) (N := 13) hC.1.1 hC.1.2.1 hC.1.2.2.2.2 in_X0 tyX0 tyX0_ok nmX0 hC.1.2.2.2.1 hC.2 hw.1 hw.2.1 hw.2.2 0 rfl rfl 0 (by decide) (hC.1.2.2.2.2 _ q40) (fun _ h9 => h9) rfl (by decide +kernel) rfl rfl (Nat.le_of_ble_eq_true rfl) hdg (fun H1 l1 hP hD hS => k H1 l1 ⟨hP, hD, hS⟩)
theorem xg_qq (hC : pp_CX p m c cc nL s args RX0 D dA dL) (hw : pp_IX D dA dL ad A H0 cn qq mq fq sn al ow tb us sc bg ce ge H locs) (hdg : decode cc pc = .ok (.getfield 35, 3)) (k : W p l e R s m args below meth c H locs cells slots Q (F0 m (pc + 3) ls (.int (nI qq) :: rest))) : W p l e R s m args below meth c H locs cells slots Q (F0 m pc ls (.ref (ad 0) :: rest)) := va_get (D := D) (ci := 0) (v := .int (nI qq)) (C := RX0) (T := TX0) (N := 13) hC.1.1 hC.1.2.1 hC.1.2.2.2.2 in_X0 hC.1.2.2.2.1 hC.2 hw.1 0 rfl rfl 1 (by decide) (hC.1.2.2.2.2 _ q41) (fun _ h9 => h9) rfl hdg k
theorem xp_qq (hC : pp_CX p m c cc nL s args RX0 D dA dL) (hw : pp_IX D dA dL ad A H0 cn qq mq fq sn al ow tb us sc bg ce ge H locs) {v : Nat} (hdg : decode cc pc = .ok (.putfield 35, 3)) (k : ∀ (H1 : Heap) (locs1 : List Loc), pp_IX D dA dL ad A H0 cn v mq fq sn al ow tb us sc bg ce ge H1 locs1 → W p l e R s m args below meth c H1 locs1 cells slots Q (F0 m (pc + 3) ls rest)) : W p l e R s m args below meth c H locs cells slots Q (F0 m pc ls (.int (nI v) :: .ref (ad 0) :: rest)) := va_put (D := D) (ci := 0) (v := .int (nI v)) (ty := .int) (C := RX0) (T := TX0) (N := 13) hC.1.1 hC.1.2.1 hC.1.2.2.2.2 in_X0 tyX0 tyX0_ok nmX0 hC.1.2.2.2.1 hC.2 hw.1 hw.2.1 hw.2.2 0 rfl rfl 1 (by decide) (hC.1.2.2.2.2 _ q41) (fun _ h9 => h9) rfl (by decide +kernel) rfl rfl (Nat.le_of_ble_eq_true rfl) hdg (fun H1 l1 hP hD hS => k H1 l1 ⟨hP, hD, hS⟩)
theorem xg_mq (hC : pp_CX p m c cc nL s args RX0 D dA dL) (hw : pp_IX D dA dL ad A H0 cn qq mq fq sn al ow tb us sc bg ce ge H locs) (hdg : decode cc pc = .ok (.getfield 7, 3)) (k : W p l e R s m args below meth c H locs cells slots Q (F0 m (pc + 3) ls (.ref (ad 1) :: rest))) : W p l e R s m args below meth c H locs cells slots Q (F0 m pc ls (.ref (ad 0) :: rest)) := va_get (D := D) (ci := 0) (v := .ref (ad 1)) (C := RX0) (T := TX0) (N := 13) hC.1.1 hC.1.2.1 hC.1.2.2.2.2 in_X0 hC.1.2.2.2.1 hC.2 hw.1 0 rfl rfl 2 (by decide) (hC.1.2.2.2.2 _ q42) (fun _ h9 => h9) rfl hdg k
theorem xl_mq (hC : pp_CX p m c cc nL s args RX0 D dA dL) (hw : pp_IX D dA dL ad A H0 cn qq mq fq sn al ow tb us sc bg ce ge H locs) {i : Nat} (hi : i < 7) (hdg : decode cc pc = .ok (.iaload, 1)) (k : W p l e R s m args below meth c H locs cells slots Q (F0 m (pc + 1) ls (.int (nI (mq i) - 1) :: rest))) : W p l e R s m args below meth c H locs cells slots Q (F0 m pc ls (.int (nI i) :: .ref (ad 1) :: rest)) := by
  refine va_iald hC.1.1 hC.1.2.1 hC.2 hw.1 1 0 rfl rfl (vp_in_nI hi (by decide)) hdg ?_
  rw [nI_clamp (by omega)]
  exact k
theorem xs_mq (hC : pp_CX p m c cc nL s args RX0 D dA dL) (hw : pp_IX D dA dL ad A H0 cn qq mq fq sn al ow tb us sc bg ce ge H locs) {i v : Nat} (hi : i < 7) (hdg : decode cc pc = .ok (.iastore, 1)) (k : ∀ (H1 : Heap) (locs1 : List Loc), pp_IX D dA dL ad A H0 cn qq (va_up mq i v) fq sn al ow tb us sc bg ce ge H1 locs1 → W p l e R s m args below meth c H1 locs1 cells slots Q (F0 m (pc + 1) ls rest)) : W p l e R s m args below meth c H locs cells slots Q (F0 m pc ls (.int (nI v - 1) :: .int (nI i) :: .ref (ad 1) :: rest)) := by
  refine va_iast hC.1.1 hC.1.2.1 hC.2 hw.1 hw.2.1 hw.2.2 1 0 rfl rfl (vp_in_nI hi (by decide)) hdg (fun H1 l1 hP hD hS => k H1 l1 ?_)
  rw [nI_clamp (by omega), pn_updm] at hP hD
  exact ⟨hP, hD, hS⟩
theorem xg_fq (hC : pp_CX p m c cc nL s args RX0 D dA dL) (hw : pp_IX D dA dL ad A H0 cn qq mq fq sn al ow tb us sc bg ce ge H locs) (hdg : decode cc pc = .ok (.getfield 13, 3)) (k : W p l e R s m args below meth c H locs cells slots Q (F0 m (pc + 3) ls (.ref (ad 2) :: rest))) : W p l e R s m args below meth c H locs cells slots Q (F0 m pc ls (.ref (ad 0) :: rest)) := va_get (D := D) (ci := 0) (v := .ref (ad 2)) (C := RX0) (T := TX0) (N := 13) hC.1.1 hC.1.2.1 hC.1.2.2.2.2 in_X0 hC.1.2.2.2.1 hC.2 hw.1 0 rfl rfl 3 (by decide) (hC.1.2.2.2.2 _ q43) (fun _ h9 => h9) rfl hdg k
theorem xl_fq (hC : pp_CX p m c cc nL s args RX0 D dA dL) (hw : pp_IX D dA dL ad A H0 cn qq mq fq sn al ow tb us sc bg ce ge H locs) {i : Nat} (hi : i < 7) (hdg : decode cc pc = .ok (.iaload, 1)) (k : W p l e R s m args below meth c H locs cells slots Q (F0 m (pc + 1) ls (.int (nI (fq i) - 1) :: rest))) : W p l e R s m args below meth c H locs cells slots Q (F0 m pc ls (.int (nI i) :: .ref (ad 2) :: rest)) := by
  refine va_iald hC.1.1 hC.1.2.1 hC.2 hw.1 2 0 rfl rfl (vp_in_nI hi (by decide)) hdg ?_
  rw [nI_clamp (by omega)]
  exact k
theorem xs_fq (hC : pp_CX p m c cc nL s args RX0 D dA dL) (hw : pp_IX D dA dL ad A H0 cn qq mq fq sn al ow tb us sc bg ce ge H locs) {i v : Nat} (hi : i < 7) (hdg : decode cc pc = .ok (.iastore, 1)) (k : ∀ (H1 : Heap) (locs1 : List Loc), pp_IX D dA dL ad A H0 cn qq mq (va_up fq i v) sn al ow tb us sc bg ce ge H1 locs1 → W p l e R s m args below meth c H1 locs1 cells slots Q (F0 m (pc + 1) ls rest)) : W p l e R s m args below meth c H locs cells slots Q (F0 m pc ls (.int (nI v - 1) :: .int (nI i) :: .ref (ad 2) :: rest)) := by
  refine va_iast hC.1.1 hC.1.2.1 hC.2 hw.1 hw.2.1 hw.2.2 2 0 rfl rfl (vp_in_nI hi (by decide)) hdg (fun H1 l1 hP hD hS => k H1 l1 ?_)
  rw [nI_clamp (by omega), pn_updm] at hP hD
  exact ⟨hP, hD, hS⟩
theorem xg_sn (hC : pp_CX p m c cc nL s args RX0 D dA dL) (hw : pp_IX D dA dL ad A H0 cn qq mq fq sn al ow tb us sc bg ce ge H locs) (hdg : decode cc pc = .ok (.getfield 16, 3)) (k : W p l e R s m args below meth c H locs cells slots Q (F0 m (pc + 3) ls (.ref (ad 3) :: rest))) : W p l e R s m args below meth c H locs cells slots Q (F0 m pc ls (.ref (ad 0) :: rest)) := va_get (D := D) (ci := 0) (v := .ref (ad 3)) (C := RX0) (T := TX0) (N := 13) hC.1.1 hC.1.2.1 hC.1.2.2.2.2 in_X0 hC.1.2.2.2.1 hC.2 hw.1 0 rfl rfl 4 (by decide) (hC.1.2.2.2.2 _ q44) (fun _ h9 => h9) rfl hdg k
theorem xl_sn (hC : pp_CX p m c cc nL s args RX0 D dA dL) (hw : pp_IX D dA dL ad A H0 cn qq mq fq sn al ow tb us sc bg ce ge H locs) {i : Nat} (hi : i < 21) (hdg : decode cc pc = .ok (.iaload, 1)) (k : W p l e R s m args below meth c H locs cells slots Q (F0 m (pc + 1) ls (.int (nI (sn i)) :: rest))) : W p l e R s m args below meth c H locs cells slots Q (F0 m pc ls (.int (nI i) :: .ref (ad 3) :: rest)) := by
  refine va_iald hC.1.1 hC.1.2.1 hC.2 hw.1 3 0 rfl rfl (vp_in_nI hi (by decide)) hdg ?_
  rw [nI_clamp (by omega)]
  exact k
theorem xs_sn (hC : pp_CX p m c cc nL s args RX0 D dA dL) (hw : pp_IX D dA dL ad A H0 cn qq mq fq sn al ow tb us sc bg ce ge H locs) {i v : Nat} (hi : i < 21) (hdg : decode cc pc = .ok (.iastore, 1)) (k : ∀ (H1 : Heap) (locs1 : List Loc), pp_IX D dA dL ad A H0 cn qq mq fq (va_up sn i v) al ow tb us sc bg ce ge H1 locs1 → W p l e R s m args below meth c H1 locs1 cells slots Q (F0 m (pc + 1) ls rest)) : W p l e R s m args below meth c H locs cells slots Q (F0 m pc ls (.int (nI v) :: .int (nI i) :: .ref (ad 3) :: rest)) := by
  refine va_iast hC.1.1 hC.1.2.1 hC.2 hw.1 hw.2.1 hw.2.2 3 0 rfl rfl (vp_in_nI hi (by decide)) hdg (fun H1 l1 hP hD hS => k H1 l1 ?_)
  rw [nI_clamp (by omega), pn_upd] at hP hD
  exact ⟨hP, hD, hS⟩
theorem xg_al (hC : pp_CX p m c cc nL s args RX0 D dA dL) (hw : pp_IX D dA dL ad A H0 cn qq mq fq sn al ow tb us sc bg ce ge H locs) (hdg : decode cc pc = .ok (.getfield 19, 3)) (k : W p l e R s m args below meth c H locs cells slots Q (F0 m (pc + 3) ls (.ref (ad 4) :: rest))) : W p l e R s m args below meth c H locs cells slots Q (F0 m pc ls (.ref (ad 0) :: rest)) := va_get (D := D) (ci := 0) (v := .ref (ad 4)) (C := RX0) (T := TX0) (N := 13) hC.1.1 hC.1.2.1 hC.1.2.2.2.2 in_X0 hC.1.2.2.2.1 hC.2 hw.1 0 rfl rfl 5 (by decide) (hC.1.2.2.2.2 _ q45) (fun _ h9 => h9) rfl hdg k
theorem xl_al (hC : pp_CX p m c cc nL s args RX0 D dA dL) (hw : pp_IX D dA dL ad A H0 cn qq mq fq sn al ow tb us sc bg ce ge H locs) {i : Nat} (hi : i < 7) (hdg : decode cc pc = .ok (.iaload, 1)) (k : W p l e R s m args below meth c H locs cells slots Q (F0 m (pc + 1) ls (.int (nI (al i)) :: rest))) : W p l e R s m args below meth c H locs cells slots Q (F0 m pc ls (.int (nI i) :: .ref (ad 4) :: rest)) := by
  refine va_iald hC.1.1 hC.1.2.1 hC.2 hw.1 4 0 rfl rfl (vp_in_nI hi (by decide)) hdg ?_
  rw [nI_clamp (by omega)]
  exact k
theorem xs_al (hC : pp_CX p m c cc nL s args RX0 D dA dL) (hw : pp_IX D dA dL ad A H0 cn qq mq fq sn al ow tb us sc bg ce ge H locs) {i v : Nat} (hi : i < 7) (hdg : decode cc pc = .ok (.iastore, 1)) (k : ∀ (H1 : Heap) (locs1 : List Loc), pp_IX D dA dL ad A H0 cn qq mq fq sn (va_up al i v) ow tb us sc bg ce ge H1 locs1 → W p l e R s m args below meth c H1 locs1 cells slots Q (F0 m (pc + 1) ls rest)) : W p l e R s m args below meth c H locs cells slots Q (F0 m pc ls (.int (nI v) :: .int (nI i) :: .ref (ad 4) :: rest)) := by
  refine va_iast hC.1.1 hC.1.2.1 hC.2 hw.1 hw.2.1 hw.2.2 4 0 rfl rfl (vp_in_nI hi (by decide)) hdg (fun H1 l1 hP hD hS => k H1 l1 ?_)
  rw [nI_clamp (by omega), pn_upd] at hP hD
  exact ⟨hP, hD, hS⟩
theorem xg_ow (hC : pp_CX p m c cc nL s args RX0 D dA dL) (hw : pp_IX D dA dL ad A H0 cn qq mq fq sn al ow tb us sc bg ce ge H locs) (hdg : decode cc pc = .ok (.getfield 61, 3)) (k : W p l e R s m args below meth c H locs cells slots Q (F0 m (pc + 3) ls (.int (nI ow) :: rest))) : W p l e R s m args below meth c H locs cells slots Q (F0 m pc ls (.ref (ad 0) :: rest)) := va_get (D := D) (ci := 0) (v := .int (nI ow)) (C := RX0) (T := TX0) (N := 13) hC.1.1 hC.1.2.1 hC.1.2.2.2.2 in_X0 hC.1.2.2.2.1 hC.2 hw.1 0 rfl rfl 6 (by decide) (hC.1.2.2.2.2 _ q46) (fun _ h9 => h9) rfl hdg k
theorem xp_ow (hC : pp_CX p m c cc nL s args RX0 D dA dL) (hw : pp_IX D dA dL ad A H0 cn qq mq fq sn al ow tb us sc bg ce ge H locs) {v : Nat} (hn : narrow .boolean (.int (nI v)) = .int (nI v)) (hfit : fits .boolean (.int (nI v)) = true) (hdg : decode cc pc = .ok (.putfield 61, 3)) (k : ∀ (H1 : Heap) (locs1 : List Loc), pp_IX D dA dL ad A H0 cn qq mq fq sn al v tb us sc bg ce ge H1 locs1 → W p l e R s m args below meth c H1 locs1 cells slots Q (F0 m (pc + 3) ls rest)) : W p l e R s m args below meth c H locs cells slots Q (F0 m pc ls (.int (nI v) :: .ref (ad 0) :: rest)) := va_put (D := D) (ci := 0) (v := .int (nI v)) (ty := .boolean) (C := RX0) (T := TX0) (N := 13) hC.1.1 hC.1.2.1 hC.1.2.2.2.2 in_X0 tyX0 tyX0_ok nmX0 hC.1.2.2.2.1 hC.2 hw.1 hw.2.1 hw.2.2 0 rfl rfl 6 (by decide) (hC.1.2.2.2.2 _ q46) (fun _ h9 => h9) rfl (by decide +kernel) hn hfit (Nat.le_of_ble_eq_true rfl) hdg (fun H1 l1 hP hD hS => k H1 l1 ⟨hP, hD, hS⟩)
theorem xg_tb (hC : pp_CX p m c cc nL s args RX0 D dA dL) (hw : pp_IX D dA dL ad A H0 cn qq mq fq sn al ow tb us sc bg ce ge H locs) (hdg : decode cc pc = .ok (.getfield 65, 3)) (k : W p l e R s m args below meth c H locs cells slots Q (F0 m (pc + 3) ls (.int (nI tb) :: rest))) : W p l e R s m args below meth c H locs cells slots Q (F0 m pc ls (.ref (ad 0) :: rest)) := va_get (D := D) (ci := 0) (v := .int (nI tb)) (C := RX0) (T := TX0) (N := 13) hC.1.1 hC.1.2.1 hC.1.2.2.2.2 in_X0 hC.1.2.2.2.1 hC.2 hw.1 0 rfl rfl 7 (by decide) (hC.1.2.2.2.2 _ q47) (fun _ h9 => h9) rfl hdg k
theorem xp_tb (hC : pp_CX p m c cc nL s args RX0 D dA dL) (hw : pp_IX D dA dL ad A H0 cn qq mq fq sn al ow tb us sc bg ce ge H locs) {v : Nat} (hdg : decode cc pc = .ok (.putfield 65, 3)) (k : ∀ (H1 : Heap) (locs1 : List Loc), pp_IX D dA dL ad A H0 cn qq mq fq sn al ow v us sc bg ce ge H1 locs1 → W p l e R s m args below meth c H1 locs1 cells slots Q (F0 m (pc + 3) ls rest)) : W p l e R s m args below meth c H locs cells slots Q (F0 m pc ls (.int (nI v) :: .ref (ad 0) :: rest)) := va_put (D := D) (ci := 0) (v := .int (nI v)) (ty := .int) (C := RX0) (T := TX0) (N := 13) hC.1.1 hC.1.2.1 hC.1.2.2.2.2 in_X0 tyX0 tyX0_ok nmX0 hC.1.2.2.2.1 hC.2 hw.1 hw.2.1 hw.2.2 0 rfl rfl 7 (by decide) (hC.1.2.2.2.2 _ q47) (fun _ h9 => h9) rfl (by decide +kernel) rfl rfl (Nat.le_of_ble_eq_true rfl) hdg (fun H1 l1 hP hD hS => k H1 l1 ⟨hP, hD, hS⟩)
theorem xg_us (hC : pp_CX p m c cc nL s args RX0 D dA dL) (hw : pp_IX D dA dL ad A H0 cn qq mq fq sn al ow tb us sc bg ce ge H locs) (hdg : decode cc pc = .ok (.getfield 68, 3)) (k : W p l e R s m args below meth c H locs cells slots Q (F0 m (pc + 3) ls (.int (nI us) :: rest))) : W p l e R s m args below meth c H locs cells slots Q (F0 m pc ls (.ref (ad 0) :: rest)) := va_get (D := D) (ci := 0) (v := .int (nI us)) (C := RX0) (T := TX0) (N := 13) hC.1.1 hC.1.2.1 hC.1.2.2.2.2 in_X0 hC.1.2.2.2.1 hC.2 hw.1 0 rfl rfl 8 (by decide) (hC.1.2.2.2.2 _ q48) (fun _ h9 => h9) rfl hdg k
theorem xp_us (hC : pp_CX p m c cc nL s args RX0 D dA dL) (hw : pp_IX D dA dL ad A H0 cn qq mq fq sn al ow tb us sc bg ce ge H locs) {v : Nat} (hdg : decode cc pc = .ok (.putfield 68, 3)) (k : ∀ (H1 : Heap) (locs1 : List Loc), pp_IX D dA dL ad A H0 cn qq mq fq sn al ow tb v sc bg ce ge H1 locs1 → W p l e R s m args below meth c H1 locs1 cells slots Q (F0 m (pc + 3) ls rest)) : W p l e R s m args below meth c H locs cells slots Q (F0 m pc ls (.int (nI v) :: .ref (ad 0) :: rest)) := va_put (D := D) (ci := 0) (v := .int (nI v)) (ty := .int) (C := RX0) (T := TX0) (N := 13) hC.1.1 hC.1.2.1 hC.1.2.2.2.2 in_X0 tyX0 tyX0_ok nmX0 hC.1.2.2.2.1 hC.2 hw.1 hw.2.1 hw.2.2 0 rfl rfl 8 (by decide) (hC.1.2.2.2.2 _ q48) (fun _ h9 => h9) rfl (by decide +kernel) rfl rfl (Nat.le_of_ble_eq_true rfl) hdg (fun H1 l1 hP hD hS => k H1 l1 ⟨hP, hD, hS⟩)
theorem xg_sc (hC : pp_CX p m c cc nL s args RX0 D dA dL) (hw : pp_IX D dA dL ad A H0 cn qq mq fq sn al ow tb us sc bg ce ge H locs) (hdg : decode cc pc = .ok (.getfield 22, 3)) (k : W p l e R s m args below meth c H locs cells slots Q (F0 m (pc + 3) ls (.ref (ad 5) :: rest))) : W p l e R s m args below meth c H locs cells slots Q (F0 m pc ls (.ref (ad 0) :: rest)) := va_get (D := D) (ci := 0) (v := .ref (ad 5)) (C := RX0) (T := TX0) (N := 13) hC.1.1 hC.1.2.1 hC.1.2.2.2.2 in_X0 hC.1.2.2.2.1 hC.2 hw.1 0 rfl rfl 9 (by decide) (hC.1.2.2.2.2 _ q49) (fun _ h9 => h9) rfl hdg k
theorem xl_sc (hC : pp_CX p m c cc nL s args RX0 D dA dL) (hw : pp_IX D dA dL ad A H0 cn qq mq fq sn al ow tb us sc bg ce ge H locs) {i : Nat} (hi : i < 16) (hdg : decode cc pc = .ok (.iaload, 1)) (k : W p l e R s m args below meth c H locs cells slots Q (F0 m (pc + 1) ls (.int (nI (sc i)) :: rest))) : W p l e R s m args below meth c H locs cells slots Q (F0 m pc ls (.int (nI i) :: .ref (ad 5) :: rest)) := by
  refine va_iald hC.1.1 hC.1.2.1 hC.2 hw.1 5 0 rfl rfl (vp_in_nI hi (by decide)) hdg ?_
  rw [nI_clamp (by omega)]
  exact k
theorem xs_sc (hC : pp_CX p m c cc nL s args RX0 D dA dL) (hw : pp_IX D dA dL ad A H0 cn qq mq fq sn al ow tb us sc bg ce ge H locs) {i v : Nat} (hi : i < 16) (hdg : decode cc pc = .ok (.iastore, 1)) (k : ∀ (H1 : Heap) (locs1 : List Loc), pp_IX D dA dL ad A H0 cn qq mq fq sn al ow tb us (va_up sc i v) bg ce ge H1 locs1 → W p l e R s m args below meth c H1 locs1 cells slots Q (F0 m (pc + 1) ls rest)) : W p l e R s m args below meth c H locs cells slots Q (F0 m pc ls (.int (nI v) :: .int (nI i) :: .ref (ad 5) :: rest)) := by
  refine va_iast hC.1.1 hC.1.2.1 hC.2 hw.1 hw.2.1 hw.2.2 5 0 rfl rfl (vp_in_nI hi (by decide)) hdg (fun H1 l1 hP hD hS => k H1 l1 ?_)
  rw [nI_clamp (by omega), pn_upd] at hP hD
  exact ⟨hP, hD, hS⟩
theorem xg_bg (hC : pp_CX p m c cc nL s args RX0 D dA dL) (hw : pp_IX D dA dL ad A H0 cn qq mq fq sn al ow tb us sc bg ce ge H locs) (hdg : decode cc pc = .ok (.getfield 25, 3)) (k : W p l e R s m args below meth c H locs cells slots Q (F0 m (pc + 3) ls (.ref (ad 6) :: rest))) : W p l e R s m args below meth c H locs cells slots Q (F0 m pc ls (.ref (ad 0) :: rest)) := va_get (D := D) (ci := 0) (v := .ref (ad 6)) (C := RX0) (T := TX0) (N := 13) hC.1.1 hC.1.2.1 hC.1.2.2.2.2 in_X0 hC.1.2.2.2.1 hC.2 hw.1 0 rfl rfl 10 (by decide) (hC.1.2.2.2.2 _ q50) (fun _ h9 => h9) rfl hdg k
theorem xl_bg (hC : pp_CX p m c cc nL s args RX0 D dA dL) (hw : pp_IX D dA dL ad A H0 cn qq mq fq sn al ow tb us sc bg ce ge H locs) {i : Nat} (hi : i < 16) (hdg : decode cc pc = .ok (.iaload, 1)) (k : W p l e R s m args below meth c H locs cells slots Q (F0 m (pc + 1) ls (.int (nI (bg i)) :: rest))) : W p l e R s m args below meth c H locs cells slots Q (F0 m pc ls (.int (nI i) :: .ref (ad 6) :: rest)) := by
  refine va_iald hC.1.1 hC.1.2.1 hC.2 hw.1 6 0 rfl rfl (vp_in_nI hi (by decide)) hdg ?_
  rw [nI_clamp (by omega)]
  exact k
theorem xs_bg (hC : pp_CX p m c cc nL s args RX0 D dA dL) (hw : pp_IX D dA dL ad A H0 cn qq mq fq sn al ow tb us sc bg ce ge H locs) {i v : Nat} (hi : i < 16) (hdg : decode cc pc = .ok (.iastore, 1)) (k : ∀ (H1 : Heap) (locs1 : List Loc), pp_IX D dA dL ad A H0 cn qq mq fq sn al ow tb us sc (va_up bg i v) ce ge H1 locs1 → W p l e R s m args below meth c H1 locs1 cells slots Q (F0 m (pc + 1) ls rest)) : W p l e R s m args below meth c H locs cells slots Q (F0 m pc ls (.int (nI v) :: .int (nI i) :: .ref (ad 6) :: rest)) := by
  refine va_iast hC.1.1 hC.1.2.1 hC.2 hw.1 hw.2.1 hw.2.2 6 0 rfl rfl (vp_in_nI hi (by decide)) hdg (fun H1 l1 hP hD hS => k H1 l1 ?_)
  rw [nI_clamp (by omega), pn_upd] at hP hD
  exact ⟨hP, hD, hS⟩
theorem xg_ce (hC : pp_CX p m c cc nL s args RX0 D dA dL) (hw : pp_IX D dA dL ad A H0 cn qq mq fq sn al ow tb us sc bg ce ge H locs) (hdg : decode cc pc = .ok (.getfield 28, 3)) (k : W p l e R s m args below meth c H locs cells slots Q (F0 m (pc + 3) ls (.ref (ad 7) :: rest))) : W p l e R s m args below meth c H locs cells slots Q (F0 m pc ls (.ref (ad 0) :: rest)) := va_get (D := D) (ci := 0) (v := .ref (ad 7)) (C := RX0) (T := TX0) (N := 13) hC.1.1 hC.1.2.1 hC.1.2.2.2.2 in_X0 hC.1.2.2.2.1 hC.2 hw.1 0 rfl rfl 11 (by decide) (hC.1.2.2.2.2 _ q51) (fun _ h9 => h9) rfl hdg k
theorem xl_ce (hC : pp_CX p m c cc nL s args RX0 D dA dL) (hw : pp_IX D dA dL ad A H0 cn qq mq fq sn al ow tb us sc bg ce ge H locs) {i : Nat} (hi : i < 1320) (hdg : decode cc pc = .ok (.laload, 1)) (k : W p l e R s m args below meth c H locs cells slots Q (F0 m (pc + 1) ls (.long (ce i) :: rest))) : W p l e R s m args below meth c H locs cells slots Q (F0 m pc ls (.int (nI i) :: .ref (ad 7) :: rest)) := by
  refine va_lald hC.1.1 hC.1.2.1 hC.2 hw.1 7 1 rfl rfl (vp_in_nI hi (by decide)) hdg ?_
  rw [nI_clamp (by omega)]
  exact k
theorem xs_ce (hC : pp_CX p m c cc nL s args RX0 D dA dL) (hw : pp_IX D dA dL ad A H0 cn qq mq fq sn al ow tb us sc bg ce ge H locs) {i : Nat} {v : Int64} (hi : i < 1320) (hdg : decode cc pc = .ok (.lastore, 1)) (k : ∀ (H1 : Heap) (locs1 : List Loc), pp_IX D dA dL ad A H0 cn qq mq fq sn al ow tb us sc bg (vp_updL ce i v) ge H1 locs1 → W p l e R s m args below meth c H1 locs1 cells slots Q (F0 m (pc + 1) ls rest)) : W p l e R s m args below meth c H locs cells slots Q (F0 m pc ls (.long v :: .int (nI i) :: .ref (ad 7) :: rest)) := by
  refine va_last hC.1.1 hC.1.2.1 hC.2 hw.1 hw.2.1 hw.2.2 7 1 rfl rfl (vp_in_nI hi (by decide)) hdg (fun H1 l1 hP hD hS => k H1 l1 ?_)
  rw [nI_clamp (by omega)] at hP hD
  exact ⟨hP, hD, hS⟩
theorem xg_ge (hC : pp_CX p m c cc nL s args RX0 D dA dL) (hw : pp_IX D dA dL ad A H0 cn qq mq fq sn al ow tb us sc bg ce ge H locs) (hdg : decode cc pc = .ok (.getfield 32, 3)) (k : W p l e R s m args below meth c H locs cells slots Q (F0 m (pc + 3) ls (.ref (ad 8) :: rest))) : W p l e R s m args below meth c H locs cells slots Q (F0 m pc ls (.ref (ad 0) :: rest)) := va_get (D := D) (ci := 0) (v := .ref (ad 8)) (C := RX0) (T := TX0) (N := 13) hC.1.1 hC.1.2.1 hC.1.2.2.2.2 in_X0 hC.1.2.2.2.1 hC.2 hw.1 0 rfl rfl 12 (by decide) (hC.1.2.2.2.2 _ q52) (fun _ h9 => h9) rfl hdg k
theorem xl_ge (hC : pp_CX p m c cc nL s args RX0 D dA dL) (hw : pp_IX D dA dL ad A H0 cn qq mq fq sn al ow tb us sc bg ce ge H locs) {i : Nat} (hi : i < 7) (hdg : decode cc pc = .ok (.iaload, 1)) (k : W p l e R s m args below meth c H locs cells slots Q (F0 m (pc + 1) ls (.int (nI (ge i)) :: rest))) : W p l e R s m args below meth c H locs cells slots Q (F0 m pc ls (.int (nI i) :: .ref (ad 8) :: rest)) := by
  refine va_iald hC.1.1 hC.1.2.1 hC.2 hw.1 8 0 rfl rfl (vp_in_nI hi (by decide)) hdg ?_
  rw [nI_clamp (by omega)]
  exact k
theorem xs_ge (hC : pp_CX p m c cc nL s args RX0 D dA dL) (hw : pp_IX D dA dL ad A H0 cn qq mq fq sn al ow tb us sc bg ce ge H locs) {i v : Nat} (hi : i < 7) (hdg : decode cc pc = .ok (.iastore, 1)) (k : ∀ (H1 : Heap) (locs1 : List Loc), pp_IX D dA dL ad A H0 cn qq mq fq sn al ow tb us sc bg ce (va_up ge i v) H1 locs1 → W p l e R s m args below meth c H1 locs1 cells slots Q (F0 m (pc + 1) ls rest)) : W p l e R s m args below meth c H locs cells slots Q (F0 m pc ls (.int (nI v) :: .int (nI i) :: .ref (ad 8) :: rest)) := by
  refine va_iast hC.1.1 hC.1.2.1 hC.2 hw.1 hw.2.1 hw.2.2 8 0 rfl rfl (vp_in_nI hi (by decide)) hdg (fun H1 l1 hP hD hS => k H1 l1 ?_)
  rw [nI_clamp (by omega), pn_upd] at hP hD
  exact ⟨hP, hD, hS⟩
end PWX
end
section
abbrev pp_WM (dA dL : ClassId) (ad : Nat → Nat) (cn qq : Nat) (mq fq sn : Nat → Nat) : va_W := [(ad 0, .inr (1, [.ref (ad 1), .ref (ad 2), .ref (ad 3), .int (nI cn), .int (nI qq)])), (ad 1, .inl (dA, 7, .inl (fun k => nI (mq k) - 1))), (ad 2, .inl (dA, 7, .inl (fun k => nI (fq k) - 1))), (ad 3, .inl (dA, 21, .inl (fun k => nI (sn k))))]
abbrev pp_AM (ad : Nat → Nat) : Nat → Prop := fun q => q ∈ [ad 0, ad 1, ad 2, ad 3]
def pp_IM (D : va_G) (dA dL : ClassId) (ad : Nat → Nat) (A : Nat → Prop) (H0 : Heap) (cn qq : Nat) (mq fq sn : Nat → Nat) (H : Heap) (locs : List Loc) : Prop := va_P D vwCl (pp_WM dA dL ad cn qq mq fq sn) H ∧ va_D A (pp_WM dA dL ad cn qq mq fq sn) ∧ va_S A H0 H locs
section PWM
variable {p : Program} {l : Launch} {e : Env} {R : Room} {s : State} {m : MethodId} {args : Array Value} {below : List Frame} {meth : Method} {c : Code} {H : Heap} {locs : List Loc} {cells slots : Nat} {Q : State → Prop}
variable {cc : ByteArray} {pc nL : Nat} {ls : Array Slot} {rest : List Value}
variable {D : va_G} {dA dL : ClassId} {ad : Nat → Nat} {A : Nat → Prop} {H0 : Heap} {cn qq : Nat} {mq fq sn : Nat → Nat}
theorem mg_mq (hC : pp_CX p m c cc nL s args RX1 D dA dL) (hw : pp_IM D dA dL ad A H0 cn qq mq fq sn H locs) (hdg : decode cc pc = .ok (.getfield 7, 3)) (k : W p l e R s m args below meth c H locs cells slots Q (F0 m (pc + 3) ls (.ref (ad 1) :: rest))) : W p l e R s m args below meth c H locs cells slots Q (F0 m pc ls (.ref (ad 0) :: rest)) := va_get (D := D) (ci := 1) (v := .ref (ad 1)) (C := RX1) (T := TX1) (N := 5) hC.1.1 hC.1.2.1 hC.1.2.2.2.2 in_X1 hC.1.2.2.2.1 hC.2 hw.1 0 rfl rfl 0 (by decide) (hC.1.2.2.2.2 _ q214) (fun _ h9 => h9) rfl hdg k
theorem ml_mq (hC : pp_CX p m c cc nL s args RX1 D dA dL) (hw : pp_IM D dA dL ad A H0 cn qq mq fq sn H locs) {i : Nat} (hi : i < 7) (hdg : decode cc pc = .ok (.iaload, 1)) (k : W p l e R s m args below meth c H locs cells slots Q (F0 m (pc + 1) ls (.int (nI (mq i) - 1) :: rest))) : W p l e R s m args below meth c H locs cells slots Q (F0 m pc ls (.int (nI i) :: .ref (ad 1) :: rest)) := by
  refine va_iald hC.1.1 hC.1.2.1 hC.2 hw.1 1 0 rfl rfl (vp_in_nI hi (by decide)) hdg ?_
  rw [nI_clamp (by omega)]
  exact k
theorem ms_mq (hC : pp_CX p m c cc nL s args RX1 D dA dL) (hw : pp_IM D dA dL ad A H0 cn qq mq fq sn H locs) {i v : Nat} (hi : i < 7) (hdg : decode cc pc = .ok (.iastore, 1)) (k : ∀ (H1 : Heap) (locs1 : List Loc), pp_IM D dA dL ad A H0 cn qq (va_up mq i v) fq sn H1 locs1 → W p l e R s m args below meth c H1 locs1 cells slots Q (F0 m (pc + 1) ls rest)) : W p l e R s m args below meth c H locs cells slots Q (F0 m pc ls (.int (nI v - 1) :: .int (nI i) :: .ref (ad 1) :: rest)) := by
  refine va_iast hC.1.1 hC.1.2.1 hC.2 hw.1 hw.2.1 hw.2.2 1 0 rfl rfl (vp_in_nI hi (by decide)) hdg (fun H1 l1 hP hD hS => k H1 l1 ?_)
  rw [nI_clamp (by omega), pn_updm] at hP hD
  exact ⟨hP, hD, hS⟩
theorem mg_fq (hC : pp_CX p m c cc nL s args RX1 D dA dL) (hw : pp_IM D dA dL ad A H0 cn qq mq fq sn H locs) (hdg : decode cc pc = .ok (.getfield 13, 3)) (k : W p l e R s m args below meth c H locs cells slots Q (F0 m (pc + 3) ls (.ref (ad 2) :: rest))) : W p l e R s m args below meth c H locs cells slots Q (F0 m pc ls (.ref (ad 0) :: rest)) := va_get (D := D) (ci := 1) (v := .ref (ad 2)) (C := RX1) (T := TX1) (N := 5) hC.1.1 hC.1.2.1 hC.1.2.2.2.2 in_X1 hC.1.2.2.2.1 hC.2 hw.1 0 rfl rfl 1 (by decide) (hC.1.2.2.2.2 _ q215) (fun _ h9 => h9) rfl hdg k
theorem ml_fq (hC : pp_CX p m c cc nL s args RX1 D dA dL) (hw : pp_IM D dA dL ad A H0 cn qq mq fq sn H locs) {i : Nat} (hi : i < 7) (hdg : decode cc pc = .ok (.iaload, 1)) (k : W p l e R s m args below meth c H locs cells slots Q (F0 m (pc + 1) ls (.int (nI (fq i) - 1) :: rest))) : W p l e R s m args below meth c H locs cells slots Q (F0 m pc ls (.int (nI i) :: .ref (ad 2) :: rest)) := by
  refine va_iald hC.1.1 hC.1.2.1 hC.2 hw.1 2 0 rfl rfl (vp_in_nI hi (by decide)) hdg ?_
  rw [nI_clamp (by omega)]
  exact k
theorem ms_fq (hC : pp_CX p m c cc nL s args RX1 D dA dL) (hw : pp_IM D dA dL ad A H0 cn qq mq fq sn H locs) {i v : Nat} (hi : i < 7) (hdg : decode cc pc = .ok (.iastore, 1)) (k : ∀ (H1 : Heap) (locs1 : List Loc), pp_IM D dA dL ad A H0 cn qq mq (va_up fq i v) sn H1 locs1 → W p l e R s m args below meth c H1 locs1 cells slots Q (F0 m (pc + 1) ls rest)) : W p l e R s m args below meth c H locs cells slots Q (F0 m pc ls (.int (nI v - 1) :: .int (nI i) :: .ref (ad 2) :: rest)) := by
  refine va_iast hC.1.1 hC.1.2.1 hC.2 hw.1 hw.2.1 hw.2.2 2 0 rfl rfl (vp_in_nI hi (by decide)) hdg (fun H1 l1 hP hD hS => k H1 l1 ?_)
  rw [nI_clamp (by omega), pn_updm] at hP hD
  exact ⟨hP, hD, hS⟩
theorem mg_sn (hC : pp_CX p m c cc nL s args RX1 D dA dL) (hw : pp_IM D dA dL ad A H0 cn qq mq fq sn H locs) (hdg : decode cc pc = .ok (.getfield 16, 3)) (k : W p l e R s m args below meth c H locs cells slots Q (F0 m (pc + 3) ls (.ref (ad 3) :: rest))) : W p l e R s m args below meth c H locs cells slots Q (F0 m pc ls (.ref (ad 0) :: rest)) := va_get (D := D) (ci := 1) (v := .ref (ad 3)) (C := RX1) (T := TX1) (N := 5) hC.1.1 hC.1.2.1 hC.1.2.2.2.2 in_X1 hC.1.2.2.2.1 hC.2 hw.1 0 rfl rfl 2 (by decide) (hC.1.2.2.2.2 _ q216) (fun _ h9 => h9) rfl hdg k
theorem ml_sn (hC : pp_CX p m c cc nL s args RX1 D dA dL) (hw : pp_IM D dA dL ad A H0 cn qq mq fq sn H locs) {i : Nat} (hi : i < 21) (hdg : decode cc pc = .ok (.iaload, 1)) (k : W p l e R s m args below meth c H locs cells slots Q (F0 m (pc + 1) ls (.int (nI (sn i)) :: rest))) : W p l e R s m args below meth c H locs cells slots Q (F0 m pc ls (.int (nI i) :: .ref (ad 3) :: rest)) := by
  refine va_iald hC.1.1 hC.1.2.1 hC.2 hw.1 3 0 rfl rfl (vp_in_nI hi (by decide)) hdg ?_
  rw [nI_clamp (by omega)]
  exact k
theorem ms_sn (hC : pp_CX p m c cc nL s args RX1 D dA dL) (hw : pp_IM D dA dL ad A H0 cn qq mq fq sn H locs) {i v : Nat} (hi : i < 21) (hdg : decode cc pc = .ok (.iastore, 1)) (k : ∀ (H1 : Heap) (locs1 : List Loc), pp_IM D dA dL ad A H0 cn qq mq fq (va_up sn i v) H1 locs1 → W p l e R s m args below meth c H1 locs1 cells slots Q (F0 m (pc + 1) ls rest)) : W p l e R s m args below meth c H locs cells slots Q (F0 m pc ls (.int (nI v) :: .int (nI i) :: .ref (ad 3) :: rest)) := by
  refine va_iast hC.1.1 hC.1.2.1 hC.2 hw.1 hw.2.1 hw.2.2 3 0 rfl rfl (vp_in_nI hi (by decide)) hdg (fun H1 l1 hP hD hS => k H1 l1 ?_)
  rw [nI_clamp (by omega), pn_upd] at hP hD
  exact ⟨hP, hD, hS⟩
theorem mg_cn (hC : pp_CX p m c cc nL s args RX1 D dA dL) (hw : pp_IM D dA dL ad A H0 cn qq mq fq sn H locs) (hdg : decode cc pc = .ok (.getfield 23, 3)) (k : W p l e R s m args below meth c H locs cells slots Q (F0 m (pc + 3) ls (.int (nI cn) :: rest))) : W p l e R s m args below meth c H locs cells slots Q (F0 m pc ls (.ref (ad 0) :: rest)) := va_get (D := D) (ci := 1) (v := .int (nI cn)) (C := RX1) (T := TX1) (N := 5) hC.1.1 hC.1.2.1 hC.1.2.2.2.2 in_X1 hC.1.2.2.2.1 hC.2 hw.1 0 rfl rfl 3 (by decide) (hC.1.2.2.2.2 _ q217) (fun _ h9 => h9) rfl hdg k
theorem mp_cn (hC : pp_CX p m c cc nL s args RX1 D dA dL) (hw : pp_IM D dA dL ad A H0 cn qq mq fq sn H locs) {v : Nat} (hdg : decode cc pc = .ok (.putfield 23, 3)) (k : ∀ (H1 : Heap) (locs1 : List Loc), pp_IM D dA dL ad A H0 v qq mq fq sn H1 locs1 → W p l e R s m args below meth c H1 locs1 cells slots Q (F0 m (pc + 3) ls rest)) : W p l e R s m args below meth c H locs cells slots Q (F0 m pc ls (.int (nI v) :: .ref (ad 0) :: rest)) := va_put (D := D) (ci := 1) (v := .int (nI v)) (ty := .int) (C := RX1) (T := TX1) (N := 5) hC.1.1 hC.1.2.1 hC.1.2.2.2.2 in_X1 tyX1 tyX1_ok nmX1 hC.1.2.2.2.1 hC.2 hw.1 hw.2.1 hw.2.2 0 rfl rfl 3 (by decide) (hC.1.2.2.2.2 _ q217) (fun _ h9 => h9) rfl (by decide +kernel) rfl rfl (Nat.le_of_ble_eq_true rfl) hdg (fun H1 l1 hP hD hS => k H1 l1 ⟨hP, hD, hS⟩)
theorem mg_qq (hC : pp_CX p m c cc nL s args RX1 D dA dL) (hw : pp_IM D dA dL ad A H0 cn qq mq fq sn H locs) (hdg : decode cc pc = .ok (.getfield 19, 3)) (k : W p l e R s m args below meth c H locs cells slots Q (F0 m (pc + 3) ls (.int (nI qq) :: rest))) : W p l e R s m args below meth c H locs cells slots Q (F0 m pc ls (.ref (ad 0) :: rest)) := va_get (D := D) (ci := 1) (v := .int (nI qq)) (C := RX1) (T := TX1) (N := 5) hC.1.1 hC.1.2.1 hC.1.2.2.2.2 in_X1 hC.1.2.2.2.1 hC.2 hw.1 0 rfl rfl 4 (by decide) (hC.1.2.2.2.2 _ q218) (fun _ h9 => h9) rfl hdg k
theorem mp_qq (hC : pp_CX p m c cc nL s args RX1 D dA dL) (hw : pp_IM D dA dL ad A H0 cn qq mq fq sn H locs) {v : Nat} (hdg : decode cc pc = .ok (.putfield 19, 3)) (k : ∀ (H1 : Heap) (locs1 : List Loc), pp_IM D dA dL ad A H0 cn v mq fq sn H1 locs1 → W p l e R s m args below meth c H1 locs1 cells slots Q (F0 m (pc + 3) ls rest)) : W p l e R s m args below meth c H locs cells slots Q (F0 m pc ls (.int (nI v) :: .ref (ad 0) :: rest)) := va_put (D := D) (ci := 1) (v := .int (nI v)) (ty := .int) (C := RX1) (T := TX1) (N := 5) hC.1.1 hC.1.2.1 hC.1.2.2.2.2 in_X1 tyX1 tyX1_ok nmX1 hC.1.2.2.2.1 hC.2 hw.1 hw.2.1 hw.2.2 0 rfl rfl 4 (by decide) (hC.1.2.2.2.2 _ q218) (fun _ h9 => h9) rfl (by decide +kernel) rfl rfl (Nat.le_of_ble_eq_true rfl) hdg (fun H1 l1 hP hD hS => k H1 l1 ⟨hP, hD, hS⟩)
end PWM
end
section
section PGN
variable {p : Program} {l : Launch} {e : Env} {R : Room} {s : State} {m : MethodId} {args : Array Value} {below : List Frame} {meth : Method} {c : Code} {H : Heap} {locs : List Loc} {cells slots : Nat} {Q : State → Prop}
variable {cc : ByteArray} {pc nL : Nat} {ls : Array Slot} {rest : List Value}
variable {D : va_G} {dA dL : ClassId} {A : Nat → Prop} {ws : va_W}
theorem pp_rS_i (hx : p.tables.exec = Jvm.exec) (hb : c.code = cc) (hr : meth.sig.returnType = some .int) (hlocks : meth.locks = false) (hdg : decode cc pc = .ok (.ireturn, 1)) {v : Int32} {post : Int32 → Prop} (hp : post v) : W p l e R s m args below meth c s.heap [] 0 0 (MQ below (vp_Si post) args s 0 0 (fun _ => False)) (F0 m pc ls [.int v]) := W.iret hx hb hr (fun t ht _ => ⟨v, rfl, hp, ht⟩) (fun q h => by cases h) hdg hlocks
theorem pp_rS_l (hx : p.tables.exec = Jvm.exec) (hb : c.code = cc) (hr : meth.sig.returnType = some .long) (hlocks : meth.locks = false) (hdg : decode cc pc = .ok (.lreturn, 1)) {v : Int64} {post : Int64 → Prop} (hp : post v) : W p l e R s m args below meth c s.heap [] 0 0 (MQ below (vp_Sl post) args s 0 0 (fun _ => False)) (F0 m pc ls [.long v]) := W.lret hx hb hr (fun t ht _ => ⟨v, rfl, hp, ht⟩) (fun q h => by cases h) hdg hlocks
theorem pp_rS_z (hx : p.tables.exec = Jvm.exec) (hb : c.code = cc) (hr : meth.sig.returnType = some .boolean) (hlocks : meth.locks = false) (hdg : decode cc pc = .ok (.ireturn, 1)) {v : Int32} {post : Int32 → Prop} (hp : post v) (hn : narrow .boolean (.int v) = .int v) : W p l e R s m args below meth c s.heap [] 0 0 (MQ below (vp_Si post) args s 0 0 (fun _ => False)) (F0 m pc ls [.int v]) := W.zret hx hb hr hn (fun t ht _ => ⟨v, rfl, hp, ht⟩) (fun q h => by cases h) hdg hlocks
theorem pp_rQ_i (hx : p.tables.exec = Jvm.exec) (hb : c.code = cc) (hr : meth.sig.returnType = some .int) (hlocks : meth.locks = false) (hdg : decode cc pc = .ok (.ireturn, 1)) {v : Int32} {S : Type} {post : Int32 → S → Prop} {F : S → va_W} (u : S) (hp : post v u) (hP : va_P D vwCl (F u) H) (hS : va_S A s.heap H locs) : W p l e R s m args below meth c H locs 0 0 (MQ below (va_Qi post (fun u t => va_P D vwCl (F u) t.heap) A) args s 0 0 (A)) (F0 m pc ls [.int v]) := W.iret hx hb hr (fun t ht _ => ⟨⟨v, u, rfl, hp, by show va_P D vwCl (F u) t.heap; rw [ht]; exact hP⟩, hS.F ht⟩) hS.2.2 hdg hlocks
theorem pp_rQ_l (hx : p.tables.exec = Jvm.exec) (hb : c.code = cc) (hr : meth.sig.returnType = some .long) (hlocks : meth.locks = false) (hdg : decode cc pc = .ok (.lreturn, 1)) {v : Int64} {S : Type} {post : Int64 → S → Prop} {F : S → va_W} (u : S) (hp : post v u) (hP : va_P D vwCl (F u) H) (hS : va_S A s.heap H locs) : W p l e R s m args below meth c H locs 0 0 (MQ below (va_Ql post (fun u t => va_P D vwCl (F u) t.heap) A) args s 0 0 (A)) (F0 m pc ls [.long v]) := W.lret hx hb hr (fun t ht _ => ⟨⟨v, u, rfl, hp, by show va_P D vwCl (F u) t.heap; rw [ht]; exact hP⟩, hS.F ht⟩) hS.2.2 hdg hlocks
theorem pp_rQ_v (hx : p.tables.exec = Jvm.exec) (hb : c.code = cc) (hr : meth.sig.returnType = none) (hlocks : meth.locks = false) (hdg : decode cc pc = .ok (.return_, 1)) {S : Type} {post : S → Prop} {F : S → va_W} (u : S) (hp : post u) (hP : va_P D vwCl (F u) H) (hS : va_S A s.heap H locs) : W p l e R s m args below meth c H locs 0 0 (MQ below (va_Qv post (fun u t => va_P D vwCl (F u) t.heap) A) args s 0 0 (A)) (F0 m pc ls []) := W.vret hx hb hr (fun t ht _ => ⟨⟨u, rfl, hp, by show va_P D vwCl (F u) t.heap; rw [ht]; exact hP⟩, hS.F ht⟩) hS.2.2 hdg hlocks
variable {y : MethodName} {code0 : ByteArray} {maxL n idx b q0 ci : Nat} {ret0 : Option FieldType} {rm : Room} {As : List Value} {own C : String} {fs : List Value} {q : vw_C} {A1 : Nat → Prop} {H0 : Heap} {st : List Value}
theorem pp_cS_i (hC : pp_CX p m c cc nL s args own D dA dL) (hP : va_P D vwCl ws H) (hD : va_D A ws) {post : Int32 → Prop} (hM : Met l y (ws_ y code0 maxL ret0) rm (pp_Pc D dA dL ws (.ref b :: As)) (vp_Si post) 0 0 (fun _ => False)) (hV : GoodIn lw_all (wsV own idx C y (ws_ y code0 maxL ret0))) (hd : y.cls = C ∧ y.cls ≠ "java/lang/invoke/MethodHandle" ∧ y.cls ≠ "java/lang/invoke/VarHandle" ∧ (parseMethodDescriptor y.desc).map (fun d => d.parameters.length) = some n) (hn : As.length = n) (hrc : rm.cells = 0) (hrs : rm.slots = 0) (hR : pp_RM R cells slots (rm.frames + 1) (8 + (maxL + 11) + rm.locals)) (hrec : ∃ cell : Cell, H[b]? = some cell ∧ cell.vm.isStatics = false ∧ s.vm.findClass C = some cell.cls) (hsz : ls.size = nL) (hrest : (rest.map fun v => v.category).sum ≤ 8) (hdg : decode cc pc = .ok (.invokevirtual idx, 3)) (hst : st = As.reverse ++ .ref b :: rest) (k : ∀ r : Int32, post r → W p l e R s m args below meth c H locs cells slots Q (F0 m (pc + 3) ls (.int r :: rest))) : W p l e R s m args below meth c H locs cells slots Q (F0 m pc ls st) := vp_callSi (W.runV (As := As) (rest := rest) hC.1 hM (cwV n hC.1.2.2.2.2 hV rfl hrc hrs hd ⟨hR.1, hR.2.1⟩) ⟨pp_blind D dA dL ws _, hrec, fun U hU hW => ⟨rfl, by rw [hU]; exact hP, va_K.moved hW.alike hC.2, hD.weaken (fun _ _ _ _ => trivial)⟩⟩ rfl hn hsz hst (lv_room hrest) hdg hR.2.2) k
theorem pp_cS_l (hC : pp_CX p m c cc nL s args own D dA dL) (hP : va_P D vwCl ws H) (hD : va_D A ws) {post : Int64 → Prop} (hM : Met l y (ws_ y code0 maxL ret0) rm (pp_Pc D dA dL ws (.ref b :: As)) (vp_Sl post) 0 0 (fun _ => False)) (hV : GoodIn lw_all (wsV own idx C y (ws_ y code0 maxL ret0))) (hd : y.cls = C ∧ y.cls ≠ "java/lang/invoke/MethodHandle" ∧ y.cls ≠ "java/lang/invoke/VarHandle" ∧ (parseMethodDescriptor y.desc).map (fun d => d.parameters.length) = some n) (hn : As.length = n) (hrc : rm.cells = 0) (hrs : rm.slots = 0) (hR : pp_RM R cells slots (rm.frames + 1) (8 + (maxL + 11) + rm.locals)) (hrec : ∃ cell : Cell, H[b]? = some cell ∧ cell.vm.isStatics = false ∧ s.vm.findClass C = some cell.cls) (hsz : ls.size = nL) (hrest : (rest.map fun v => v.category).sum ≤ 8) (hdg : decode cc pc = .ok (.invokevirtual idx, 3)) (hst : st = As.reverse ++ .ref b :: rest) (k : ∀ r : Int64, post r → W p l e R s m args below meth c H locs cells slots Q (F0 m (pc + 3) ls (.long r :: rest))) : W p l e R s m args below meth c H locs cells slots Q (F0 m pc ls st) := vp_callSl (W.runV (As := As) (rest := rest) hC.1 hM (cwV n hC.1.2.2.2.2 hV rfl hrc hrs hd ⟨hR.1, hR.2.1⟩) ⟨pp_blind D dA dL ws _, hrec, fun U hU hW => ⟨rfl, by rw [hU]; exact hP, va_K.moved hW.alike hC.2, hD.weaken (fun _ _ _ _ => trivial)⟩⟩ rfl hn hsz hst (lv_room hrest) hdg hR.2.2) k
theorem pp_cQ_i (hC : pp_CX p m c cc nL s args own D dA dL) (hP : va_P D vwCl ws H) (hD : va_D A ws) (hS : va_S A H0 H locs) {S : Type} {post : Int32 → S → Prop} {F : S → va_W} (hM : Met l y (ws_ y code0 maxL ret0) rm (pp_Pc D dA dL ws (.ref b :: As)) (va_Qi post (fun u t => va_P D vwCl (F u) t.heap) A1) 0 0 A1) (hA : ∀ q, A1 q → A q) (hV : GoodIn lw_all (wsV own idx C y (ws_ y code0 maxL ret0))) (hd : y.cls = C ∧ y.cls ≠ "java/lang/invoke/MethodHandle" ∧ y.cls ≠ "java/lang/invoke/VarHandle" ∧ (parseMethodDescriptor y.desc).map (fun d => d.parameters.length) = some n) (hn : As.length = n) (hrc : rm.cells = 0) (hrs : rm.slots = 0) (hR : pp_RM R cells slots (rm.frames + 1) (8 + (maxL + 11) + rm.locals)) (hrec : ∃ cell : Cell, H[b]? = some cell ∧ cell.vm.isStatics = false ∧ s.vm.findClass C = some cell.cls) (hsz : ls.size = nL) (hrest : (rest.map fun v => v.category).sum ≤ 8) (hdg : decode cc pc = .ok (.invokevirtual idx, 3)) (hst : st = As.reverse ++ .ref b :: rest) (k : ∀ (r : Int32) (u : S) (H1 : Heap) (locs1 : List Loc), post r u → va_P D vwCl (F u) H1 → va_S A H0 H1 locs1 → (∀ q : Nat, q < H.size → ¬ A1 q → H1[q]? = H[q]?) → W p l e R s m args below meth c H1 locs1 cells slots Q (F0 m (pc + 3) ls (.int r :: rest))) : W p l e R s m args below meth c H locs cells slots Q (F0 m pc ls st) := va_calli (va_runV (As := As) (rest := rest) hC.1 hM (cwV n hC.1.2.2.2.2 hV rfl hrc hrs hd ⟨hR.1, hR.2.1⟩) ⟨pp_blind D dA dL ws _, hrec, fun U hU hW => ⟨rfl, by rw [hU]; exact hP, va_K.moved hW.alike hC.2, hD.weaken (fun _ _ _ _ => trivial)⟩⟩ rfl hn hsz hst (lv_room hrest) hdg hR.2.2) hS (fun q _ h => hA q h) hA (fun r u t H1 locs1 ht _ hp hB _ hk hS1 => k r u H1 locs1 hp (by rw [← ht]; exact hB) hS1 hk)
theorem pp_cQ_l (hC : pp_CX p m c cc nL s args own D dA dL) (hP : va_P D vwCl ws H) (hD : va_D A ws) (hS : va_S A H0 H locs) {S : Type} {post : Int64 → S → Prop} {F : S → va_W} (hM : Met l y (ws_ y code0 maxL ret0) rm (pp_Pc D dA dL ws (.ref b :: As)) (va_Ql post (fun u t => va_P D vwCl (F u) t.heap) A1) 0 0 A1) (hA : ∀ q, A1 q → A q) (hV : GoodIn lw_all (wsV own idx C y (ws_ y code0 maxL ret0))) (hd : y.cls = C ∧ y.cls ≠ "java/lang/invoke/MethodHandle" ∧ y.cls ≠ "java/lang/invoke/VarHandle" ∧ (parseMethodDescriptor y.desc).map (fun d => d.parameters.length) = some n) (hn : As.length = n) (hrc : rm.cells = 0) (hrs : rm.slots = 0) (hR : pp_RM R cells slots (rm.frames + 1) (8 + (maxL + 11) + rm.locals)) (hrec : ∃ cell : Cell, H[b]? = some cell ∧ cell.vm.isStatics = false ∧ s.vm.findClass C = some cell.cls) (hsz : ls.size = nL) (hrest : (rest.map fun v => v.category).sum ≤ 8) (hdg : decode cc pc = .ok (.invokevirtual idx, 3)) (hst : st = As.reverse ++ .ref b :: rest) (k : ∀ (r : Int64) (u : S) (H1 : Heap) (locs1 : List Loc), post r u → va_P D vwCl (F u) H1 → va_S A H0 H1 locs1 → (∀ q : Nat, q < H.size → ¬ A1 q → H1[q]? = H[q]?) → W p l e R s m args below meth c H1 locs1 cells slots Q (F0 m (pc + 3) ls (.long r :: rest))) : W p l e R s m args below meth c H locs cells slots Q (F0 m pc ls st) := va_calll (va_runV (As := As) (rest := rest) hC.1 hM (cwV n hC.1.2.2.2.2 hV rfl hrc hrs hd ⟨hR.1, hR.2.1⟩) ⟨pp_blind D dA dL ws _, hrec, fun U hU hW => ⟨rfl, by rw [hU]; exact hP, va_K.moved hW.alike hC.2, hD.weaken (fun _ _ _ _ => trivial)⟩⟩ rfl hn hsz hst (lv_room hrest) hdg hR.2.2) hS (fun q _ h => hA q h) hA (fun r u t H1 locs1 ht _ hp hB _ hk hS1 => k r u H1 locs1 hp (by rw [← ht]; exact hB) hS1 hk)
theorem pp_cQ_v (hC : pp_CX p m c cc nL s args own D dA dL) (hP : va_P D vwCl ws H) (hD : va_D A ws) (hS : va_S A H0 H locs) {S : Type} {post : S → Prop} {F : S → va_W} (hM : Met l y (ws_ y code0 maxL ret0) rm (pp_Pc D dA dL ws (.ref b :: As)) (va_Qv post (fun u t => va_P D vwCl (F u) t.heap) A1) 0 0 A1) (hA : ∀ q, A1 q → A q) (hV : GoodIn lw_all (wsV own idx C y (ws_ y code0 maxL ret0))) (hd : y.cls = C ∧ y.cls ≠ "java/lang/invoke/MethodHandle" ∧ y.cls ≠ "java/lang/invoke/VarHandle" ∧ (parseMethodDescriptor y.desc).map (fun d => d.parameters.length) = some n) (hn : As.length = n) (hrc : rm.cells = 0) (hrs : rm.slots = 0) (hR : pp_RM R cells slots (rm.frames + 1) (8 + (maxL + 11) + rm.locals)) (hrec : ∃ cell : Cell, H[b]? = some cell ∧ cell.vm.isStatics = false ∧ s.vm.findClass C = some cell.cls) (hsz : ls.size = nL) (hrest : (rest.map fun v => v.category).sum ≤ 8) (hdg : decode cc pc = .ok (.invokevirtual idx, 3)) (hst : st = As.reverse ++ .ref b :: rest) (k : ∀ (u : S) (H1 : Heap) (locs1 : List Loc), post u → va_P D vwCl (F u) H1 → va_S A H0 H1 locs1 → (∀ q : Nat, q < H.size → ¬ A1 q → H1[q]? = H[q]?) → W p l e R s m args below meth c H1 locs1 cells slots Q (F0 m (pc + 3) ls rest)) : W p l e R s m args below meth c H locs cells slots Q (F0 m pc ls st) := va_callv (va_runV (As := As) (rest := rest) hC.1 hM (cwV n hC.1.2.2.2.2 hV rfl hrc hrs hd ⟨hR.1, hR.2.1⟩) ⟨pp_blind D dA dL ws _, hrec, fun U hU hW => ⟨rfl, by rw [hU]; exact hP, va_K.moved hW.alike hC.2, hD.weaken (fun _ _ _ _ => trivial)⟩⟩ rfl hn hsz hst (lv_room hrest) hdg hR.2.2) hS (fun q _ h => hA q h) hA (fun u t H1 locs1 ht _ hp hB _ hk hS1 => k u H1 locs1 hp (by rw [← ht]; exact hB) hS1 hk)
end PGN
/-- a contract of a method of the class, out of a walk from its entry -/
theorem pp_ofX {l : Launch} {y : MethodName} {cc : ByteArray} {maxL : Nat} {ret0 : Option FieldType} {rm : Room} {Qc : Array Value → State → Outcome → State → Prop} {free : Addr → Prop} {D : va_G} {dA dL : ClassId} {ad : Nat → Nat} {cn qq : Nat} {mq fq sn al : Nat → Nat} {ow tb us : Nat} {sc bg : Nat → Nat} {ce : Nat → Int64} {ge : Nat → Nat} {as : List Value} (hy : plainName y.cls = true) (hcls : y.cls = RX0) (hlen : (lg_sl (.ref (ad 0) :: as)).length ≤ maxL)
    (body : ∀ (p : Program) (e : Env) (s : State) (m : MethodId) (below : List Frame) (meth : Method) (c : Code) (ls : Array Slot), pp_CX p m c cc maxL s (Value.ref (ad 0) :: as).toArray RX0 D dA dL → meth.sig.returnType = ret0 → meth.locks = false → pp_IX D dA dL ad (pp_AX ad) s.heap cn qq mq fq sn al ow tb us sc bg ce ge s.heap [] → lv_has ls maxL (lv_args 0 (.ref (ad 0) :: as)) →
      W p l e rm s m (Value.ref (ad 0) :: as).toArray below meth c s.heap [] 0 0 (MQ below Qc (Value.ref (ad 0) :: as).toArray s 0 0 free) (F0 m 0 ls [])) :
    Met l y (ws_ y cc maxL ret0) rm (pp_Pc D dA dL (pp_WX dA dL ad cn qq mq fq sn al ow tb us sc bg ce ge) (.ref (ad 0) :: as)) Qc 0 0 free := by
  refine Met.ofW (cc := cc) (maxL := maxL) (ret := ret0) hy rfl ?_
  intro p e s m args below meth c s₁ B hml hv
  obtain ⟨rfl, hP, hK, hD0⟩ := hv
  have hts := atoms_spec (ws := ws_ y cc maxL ret0) B.pre
  have hts : ∀ w ∈ lw_all, w.before _ s = true := fun w h => hts w (List.mem_cons_of_mem _ h)
  have hown : s.vm.findClass y.cls = some m.cls := findClass_of_methodNamed B.named
  rw [hcls] at hown
  have hl := lv_entry (.ref (ad 0) :: as) (n := maxL) hlen
  rw [lg_entry_eq]
  exact body p e s m below meth c _ ⟨⟨B.exec, B.bytes, hml, hown, hts⟩, hK⟩ B.returns B.notSynchronized ⟨hP, pp_D_in _ hD0 rfl, va_S.rf⟩ hl
/-- a contract of a method of the class, out of a walk from its entry -/
theorem pp_ofM {l : Launch} {y : MethodName} {cc : ByteArray} {maxL : Nat} {ret0 : Option FieldType} {rm : Room} {Qc : Array Value → State → Outcome → State → Prop} {free : Addr → Prop} {D : va_G} {dA dL : ClassId} {ad : Nat → Nat} {cn qq : Nat} {mq fq sn : Nat → Nat} {as : List Value} (hy : plainName y.cls = true) (hcls : y.cls = RX1) (hlen : (lg_sl (.ref (ad 0) :: as)).length ≤ maxL)
    (body : ∀ (p : Program) (e : Env) (s : State) (m : MethodId) (below : List Frame) (meth : Method) (c : Code) (ls : Array Slot), pp_CX p m c cc maxL s (Value.ref (ad 0) :: as).toArray RX1 D dA dL → meth.sig.returnType = ret0 → meth.locks = false → pp_IM D dA dL ad (pp_AM ad) s.heap cn qq mq fq sn s.heap [] → lv_has ls maxL (lv_args 0 (.ref (ad 0) :: as)) →
      W p l e rm s m (Value.ref (ad 0) :: as).toArray below meth c s.heap [] 0 0 (MQ below Qc (Value.ref (ad 0) :: as).toArray s 0 0 free) (F0 m 0 ls [])) :
    Met l y (ws_ y cc maxL ret0) rm (pp_Pc D dA dL (pp_WM dA dL ad cn qq mq fq sn) (.ref (ad 0) :: as)) Qc 0 0 free := by
  refine Met.ofW (cc := cc) (maxL := maxL) (ret := ret0) hy rfl ?_
  intro p e s m args below meth c s₁ B hml hv
  obtain ⟨rfl, hP, hK, hD0⟩ := hv
  have hts := atoms_spec (ws := ws_ y cc maxL ret0) B.pre
  have hts : ∀ w ∈ lw_all, w.before _ s = true := fun w h => hts w (List.mem_cons_of_mem _ h)
  have hown : s.vm.findClass y.cls = some m.cls := findClass_of_methodNamed B.named
  rw [hcls] at hown
  have hl := lv_entry (.ref (ad 0) :: as) (n := maxL) hlen
  rw [lg_entry_eq]
  exact body p e s m below meth c _ ⟨⟨B.exec, B.bytes, hml, hown, hts⟩, hK⟩ B.returns B.notSynchronized ⟨hP, pp_D_in _ hD0 rfl, va_S.rf⟩ hl
end
section
section PL_sizeOf
variable {p : Program} {l : Launch} {e : Env} {R : Room} {s : State} {m : MethodId} {args : Array Value} {below : List Frame} {meth : Method} {c : Code} {H : Heap} {locs : List Loc} {cells slots : Nat} {Q : State → Prop}
variable {cc : ByteArray} {pc nL : Nat} {ls : Array Slot} {rest : List Value}
variable {D : va_G} {dA dL : ClassId} {ad : Nat → Nat} {A : Nat → Prop} {H0 : Heap} {cn qq : Nat} {mq fq sn al : Nat → Nat} {ow tb us : Nat} {sc bg : Nat → Nat} {ce : Nat → Int64} {ge : Nat → Nat}
set_option maxHeartbeats 4000000 in
set_option maxRecDepth 100000 in
theorem lX_sizeOf (hC : pp_CX p m c cX0_sizeOf 4 s args RX0 D dA dL) {S a0 : Nat} (hS : S < 128) : ∀ (n i : Nat) (ls : Array Slot), 7 - i = n → i ≤ 7 → lv_has ls 4 [(0, .ref a0), (1, .int (nI S)), (2, .int (nI (pp_sz S i))), (3, .int (nI i))] → (∀ ls : Array Slot, lv_has ls 4 [(0, .ref a0), (1, .int (nI S)), (2, .int (nI (pp_sz S 7))), (3, .int (nI 7))] → W p l e R s m args below meth c H locs cells slots Q (F0 m 24 ls [])) → W p l e R s m args below meth c H locs cells slots Q (F0 m 4 ls []) := by
  have hx := hC.1.1
  have hb := hC.1.2.1
  intro n
  induction n using Nat.strongRecOn with
  | ind n ih =>
    intro i ls hn hi hl kk
    refine lv_iload_n hx hb dX0_sizeOf_4 rfl (lv_at hl 3 rfl) ?_
    refine lv_bipush (v := (nI 7)) hx hb dX0_sizeOf_5 (by decide) ?_
    refine nr_ge (tgt := 24) hx hb dX0_sizeOf_7 (by decide) (by omega) (by omega) (fun h1 => ?_) (fun h1 => ?_)
    · obtain rfl : i = 7 := by omega
      exact kk ls hl
    · refine lv_iload_n hx hb dX0_sizeOf_10 rfl (lv_at hl 2 rfl) ?_
      refine lv_iload_n hx hb dX0_sizeOf_11 rfl (lv_at hl 1 rfl) ?_
      refine lv_iload_n hx hb dX0_sizeOf_12 rfl (lv_at hl 3 rfl) ?_
      refine nr_shr hx hb (by omega) (by omega) dX0_sizeOf_13 ?_
      refine lv_iconst (v := (nI 1)) hx hb dX0_sizeOf_14 (by decide) ?_
      refine nr_bt hx hb (by omega) dX0_sizeOf_15 ?_
      refine nr_add hx hb dX0_sizeOf_16 ?_
      refine nr_top (y := (nI (pp_sz S (i + 1)))) (by rw [pp_sz]) ?_
      refine lv_istore_n (lv' := [(2, .int (nI (pp_sz S (i + 1)))), (0, .ref a0), (1, .int (nI S)), (3, .int (nI i))]) hx hb dX0_sizeOf_17 rfl hl (by decide) rfl (fun ls hl => ?_)
      refine lv_iinc (v := (nI (i + 1))) (lv' := [(3, .int (nI (i + 1))), (2, .int (nI (pp_sz S (i + 1)))), (0, .ref a0), (1, .int (nI S))]) hx hb dX0_sizeOf_18 hl (k := 3) rfl (pn_inc _) (by decide) rfl (fun ls hl => ?_)
      refine lv_goto (tgt := 4) hx hb dX0_sizeOf_21 (by decide) ?_
      exact ih (7 - (i + 1)) (by omega) (i + 1) ls rfl (by omega) (lv_sub hl [2, 3, 1, 0] rfl) kk
end PL_sizeOf
set_option maxHeartbeats 4000000 in
set_option maxRecDepth 100000 in
theorem mX_sizeOf (l : Launch) (D : va_G) (dA dL : ClassId) (ad : Nat → Nat) (cn qq : Nat) (mq fq sn al : Nat → Nat) (ow tb us : Nat) (sc bg : Nat → Nat) (ce : Nat → Int64) (ge : Nat → Nat) (S : Nat) (hS : S < 128) : Met l yX0_sizeOf (ws_ yX0_sizeOf cX0_sizeOf 4 (some .int)) ({ frames := 0, cells := 0, slots := 0, locals := 0 } : Room) (pp_Pc D dA dL (pp_WX dA dL ad cn qq mq fq sn al ow tb us sc bg ce ge) [.ref (ad 0), .int (nI S)]) (vp_Si (fun z0 => z0 = (nI (pp_sz S 7)))) 0 0 (fun _ => False) := by
  refine pp_ofX (by decide) rfl (Nat.le_of_ble_eq_true rfl) ?_
  intro p e s m below meth c ls hC hr hlocks hw hl
  have hx := hC.1.1
  have hb := hC.1.2.1
  have hl : lv_has ls 4 [(0, .ref (ad 0)), (1, .int (nI S))] := hl
  refine lv_iconst (v := (nI 0)) hx hb dX0_sizeOf_0 (by decide) ?_
  refine lv_istore_n (lv' := [(2, .int (nI 0)), (0, .ref (ad 0)), (1, .int (nI S))]) hx hb dX0_sizeOf_1 rfl hl (by decide) rfl (fun ls hl => ?_)
  refine lv_iconst (v := (nI 0)) hx hb dX0_sizeOf_2 (by decide) ?_
  refine lv_istore_n (lv' := [(3, .int (nI 0)), (2, .int (nI 0)), (0, .ref (ad 0)), (1, .int (nI S))]) hx hb dX0_sizeOf_3 rfl hl (by decide) rfl (fun ls hl => ?_)
  refine lX_sizeOf hC hS 7 0 ls rfl (by decide) (lv_sub hl [2, 3, 1, 0] rfl) (fun ls hl => ?_)
  refine lv_iload_n hx hb dX0_sizeOf_24 rfl (lv_at hl 2 rfl) ?_
  exact pp_rS_i hx hb hr hlocks dX0_sizeOf_25 rfl
section PC_X_sizeOf
variable {p : Program} {l : Launch} {e : Env} {R : Room} {s : State} {m : MethodId} {args : Array Value} {below : List Frame} {meth : Method} {c : Code} {H : Heap} {locs : List Loc} {cells slots : Nat} {Q : State → Prop}
variable {cc : ByteArray} {pc nL : Nat} {ls : Array Slot} {rest : List Value}
variable {D : va_G} {dA dL : ClassId} {ad : Nat → Nat} {A : Nat → Prop} {H0 : Heap} {cn qq : Nat} {mq fq sn al : Nat → Nat} {ow tb us : Nat} {sc bg : Nat → Nat} {ce : Nat → Int64} {ge : Nat → Nat}
set_option maxRecDepth 100000 in
theorem xc_sizeOf (hC : pp_CX p m c cc nL s args RX0 D dA dL) (hw : pp_IX D dA dL ad A H0 cn qq mq fq sn al ow tb us sc bg ce ge H locs) {S : Nat} (hS : S < 128) (hR : pp_RM R cells slots 1 23) (hsz : ls.size = nL) (hrest : (rest.map fun v => v.category).sum ≤ 8) (hdg : decode cc pc = .ok (.invokevirtual 71, 3)) (kk : W p l e R s m args below meth c H locs cells slots Q (F0 m (pc + 3) ls (.int (nI (pp_sz S 7)) :: rest))) : W p l e R s m args below meth c H locs cells slots Q (F0 m pc ls (.int (nI S) :: .ref (ad 0) :: rest)) := pp_cS_i (n := 1) hC hw.1 hw.2.1 (mX_sizeOf l D dA dL ad cn qq mq fq sn al ow tb us sc bg ce ge S hS) (lw_V q142 q144 qs7 q30 q145) (by decide +kernel) rfl rfl rfl hR (va_recv hC.2 hw.1 (ci := 0) (q0 := 0) rfl rfl) hsz hrest hdg rfl (fun r h => by rw [h]; exact kk)
end PC_X_sizeOf
section PL_power
variable {p : Program} {l : Launch} {e : Env} {R : Room} {s : State} {m : MethodId} {args : Array Value} {below : List Frame} {meth : Method} {c : Code} {H : Heap} {locs : List Loc} {cells slots : Nat} {Q : State → Prop}
variable {cc : ByteArray} {pc nL : Nat} {ls : Array Slot} {rest : List Value}
variable {D : va_G} {dA dL : ClassId} {ad : Nat → Nat} {A : Nat → Prop} {H0 : Heap} {cn qq : Nat} {mq fq sn al : Nat → Nat} {ow tb us : Nat} {sc bg : Nat → Nat} {ce : Nat → Int64} {ge : Nat → Nat}
set_option maxHeartbeats 4000000 in
set_option maxRecDepth 100000 in
theorem lX_power (hC : pp_CX p m c cX0_power 4 s args RX0 D dA dL) {k a0 : Nat} (hk : k ≤ 7) : ∀ (n i : Nat) (ls : Array Slot), k - i = n → i ≤ k → lv_has ls 4 [(0, .ref a0), (1, .int (nI k)), (2, .int (nI (3 ^ i))), (3, .int (nI i))] → (∀ ls : Array Slot, lv_has ls 4 [(0, .ref a0), (1, .int (nI k)), (2, .int (nI (3 ^ k))), (3, .int (nI k))] → W p l e R s m args below meth c H locs cells slots Q (F0 m 19 ls [])) → W p l e R s m args below meth c H locs cells slots Q (F0 m 4 ls []) := by
  have hx := hC.1.1
  have hb := hC.1.2.1
  intro n
  induction n using Nat.strongRecOn with
  | ind n ih =>
    intro i ls hn hi hl kk
    refine lv_iload_n hx hb dX0_power_4 rfl (lv_at hl 3 rfl) ?_
    refine lv_iload_n hx hb dX0_power_5 rfl (lv_at hl 1 rfl) ?_
    refine nr_ge (tgt := 19) hx hb dX0_power_6 (by decide) (by omega) (by omega) (fun h1 => ?_) (fun h1 => ?_)
    · obtain rfl : i = k := by omega
      exact kk ls hl
    · refine lv_iload_n hx hb dX0_power_9 rfl (lv_at hl 2 rfl) ?_
      refine lv_iconst (v := (nI 3)) hx hb dX0_power_10 (by decide) ?_
      refine nr_mul hx hb dX0_power_11 ?_
      refine nr_top (y := (nI (3 ^ (i + 1)))) (by rw [Nat.pow_succ]) ?_
      refine lv_istore_n (lv' := [(2, .int (nI (3 ^ (i + 1)))), (0, .ref a0), (1, .int (nI k)), (3, .int (nI i))]) hx hb dX0_power_12 rfl hl (by decide) rfl (fun ls hl => ?_)
      refine lv_iinc (v := (nI (i + 1))) (lv' := [(3, .int (nI (i + 1))), (2, .int (nI (3 ^ (i + 1)))), (0, .ref a0), (1, .int (nI k))]) hx hb dX0_power_13 hl (k := 3) rfl (pn_inc _) (by decide) rfl (fun ls hl => ?_)
      refine lv_goto (tgt := 4) hx hb dX0_power_16 (by decide) ?_
      exact ih (k - (i + 1)) (by omega) (i + 1) ls rfl (by omega) (lv_sub hl [2, 3, 1, 0] rfl) kk
end PL_power
set_option maxHeartbeats 4000000 in
set_option maxRecDepth 100000 in
theorem mX_power (l : Launch) (D : va_G) (dA dL : ClassId) (ad : Nat → Nat) (cn qq : Nat) (mq fq sn al : Nat → Nat) (ow tb us : Nat) (sc bg : Nat → Nat) (ce : Nat → Int64) (ge : Nat → Nat) (k : Nat) (hk : k ≤ 7) : Met l yX0_power (ws_ yX0_power cX0_power 4 (some .int)) ({ frames := 0, cells := 0, slots := 0, locals := 0 } : Room) (pp_Pc D dA dL (pp_WX dA dL ad cn qq mq fq sn al ow tb us sc bg ce ge) [.ref (ad 0), .int (nI k)]) (vp_Si (fun z0 => z0 = (nI (3 ^ k)))) 0 0 (fun _ => False) := by
  refine pp_ofX (by decide) rfl (Nat.le_of_ble_eq_true rfl) ?_
  intro p e s m below meth c ls hC hr hlocks hw hl
  have hx := hC.1.1
  have hb := hC.1.2.1
  have hl : lv_has ls 4 [(0, .ref (ad 0)), (1, .int (nI k))] := hl
  refine lv_iconst (v := (nI 1)) hx hb dX0_power_0 (by decide) ?_
  refine lv_istore_n (lv' := [(2, .int (nI 1)), (0, .ref (ad 0)), (1, .int (nI k))]) hx hb dX0_power_1 rfl hl (by decide) rfl (fun ls hl => ?_)
  refine lv_iconst (v := (nI 0)) hx hb dX0_power_2 (by decide) ?_
  refine lv_istore_n (lv' := [(3, .int (nI 0)), (2, .int (nI 1)), (0, .ref (ad 0)), (1, .int (nI k))]) hx hb dX0_power_3 rfl hl (by decide) rfl (fun ls hl => ?_)
  refine lX_power hC hk k 0 ls rfl (Nat.zero_le k) (lv_sub hl [2, 3, 1, 0] rfl) (fun ls hl => ?_)
  refine lv_iload_n hx hb dX0_power_19 rfl (lv_at hl 2 rfl) ?_
  exact pp_rS_i hx hb hr hlocks dX0_power_20 rfl
section PC_X_power
variable {p : Program} {l : Launch} {e : Env} {R : Room} {s : State} {m : MethodId} {args : Array Value} {below : List Frame} {meth : Method} {c : Code} {H : Heap} {locs : List Loc} {cells slots : Nat} {Q : State → Prop}
variable {cc : ByteArray} {pc nL : Nat} {ls : Array Slot} {rest : List Value}
variable {D : va_G} {dA dL : ClassId} {ad : Nat → Nat} {A : Nat → Prop} {H0 : Heap} {cn qq : Nat} {mq fq sn al : Nat → Nat} {ow tb us : Nat} {sc bg : Nat → Nat} {ce : Nat → Int64} {ge : Nat → Nat}
set_option maxRecDepth 100000 in
theorem xc_power (hC : pp_CX p m c cc nL s args RX0 D dA dL) (hw : pp_IX D dA dL ad A H0 cn qq mq fq sn al ow tb us sc bg ce ge H locs) {k : Nat} (hk : k ≤ 7) (hR : pp_RM R cells slots 1 23) (hsz : ls.size = nL) (hrest : (rest.map fun v => v.category).sum ≤ 8) (hdg : decode cc pc = .ok (.invokevirtual 74, 3)) (kk : W p l e R s m args below meth c H locs cells slots Q (F0 m (pc + 3) ls (.int (nI (3 ^ k)) :: rest))) : W p l e R s m args below meth c H locs cells slots Q (F0 m pc ls (.int (nI k) :: .ref (ad 0) :: rest)) := pp_cS_i (n := 1) hC hw.1 hw.2.1 (mX_power l D dA dL ad cn qq mq fq sn al ow tb us sc bg ce ge k hk) (lw_V q146 q148 qs8 q30 q149) (by decide +kernel) rfl rfl rfl hR (va_recv hC.2 hw.1 (ci := 0) (q0 := 0) rfl rfl) hsz hrest hdg rfl (fun r h => by rw [h]; exact kk)
end PC_X_power
end
section
def pp_bad (cn : Nat) (x : Int32) : Nat := if x < 0 ∨ ¬ x < nI cn then 1 else 0
def pp_bdg (x : Int32) : Nat := if x < 0 ∨ ¬ x ≤ nI 2 then 1 else 0
def pp_al7 (al : Nat → Nat) (n : Nat) : Nat → Nat := fun k => if k < n then 7 else al k
theorem pp_al7_0 (al : Nat → Nat) : pp_al7 al 0 = al := by
  funext k
  unfold pp_al7
  rw [if_neg (by omega)]
theorem pp_al7_s (al : Nat → Nat) (n : Nat) : va_up (pp_al7 al n) n 7 = pp_al7 al (n + 1) := by
  funext k
  by_cases h : k = n
  · subst h
    rw [pp_up_self]
    unfold pp_al7
    rw [if_pos (by omega)]
  · rw [pp_up_ne _ _ h]
    unfold pp_al7
    by_cases h2 : k < n
    · rw [if_pos h2, if_pos (by omega)]
    · rw [if_neg h2, if_neg (by omega)]
section PL_spread
variable {p : Program} {l : Launch} {e : Env} {R : Room} {s : State} {m : MethodId} {args : Array Value} {below : List Frame} {meth : Method} {c : Code} {H : Heap} {locs : List Loc} {cells slots : Nat} {Q : State → Prop}
variable {cc : ByteArray} {pc nL : Nat} {ls : Array Slot} {rest : List Value}
variable {D : va_G} {dA dL : ClassId} {ad : Nat → Nat} {A : Nat → Prop} {H0 : Heap} {cn qq : Nat} {mq fq sn al : Nat → Nat} {ow tb us : Nat} {sc bg : Nat → Nat} {ce : Nat → Int64} {ge : Nat → Nat}
set_option maxHeartbeats 4000000 in
set_option maxRecDepth 100000 in
theorem lX_spread (hC : pp_CX p m c cX0_spread 5 s args RX0 D dA dL) {S k : Nat} (hS : S < 128) (hk : k < 2 ^ 31) : ∀ (n : Nat) (i : Nat) (ls : Array Slot) (H : Heap) (locs : List Loc), 7 - i = n → i ≤ 7 → pp_IX D dA dL ad A H0 cn qq mq fq sn al ow tb us sc bg ce (pp_spr S k ge i) H locs → lv_has ls 5 [(0, .ref (ad 0)), (1, .int (nI S)), (2, .int (nI k)), (3, .int (nI (pp_rest S k i))), (4, .int (nI i))] → (∀ (ls : Array Slot) (H : Heap) (locs : List Loc), pp_IX D dA dL ad A H0 cn qq mq fq sn al ow tb us sc bg ce (pp_spr S k ge 7) H locs → lv_has ls 5 [(0, .ref (ad 0)), (1, .int (nI S)), (2, .int (nI k)), (3, .int (nI (pp_rest S k 7))), (4, .int (nI 7))] → W p l e R s m args below meth c H locs cells slots Q (F0 m 42 ls [])) → W p l e R s m args below meth c H locs cells slots Q (F0 m 5 ls []) := by
  have hx := hC.1.1
  have hb := hC.1.2.1
  intro n
  induction n using Nat.strongRecOn with
  | ind n ih =>
    intro i ls H locs hn g1 hw hl kk1
    refine lv_iload hx hb dX0_spread_5 (lv_at hl 4 rfl) ?_
    refine lv_bipush (v := (nI 7)) hx hb dX0_spread_7 (by decide) ?_
    refine nr_ge (tgt := 42) hx hb dX0_spread_9 (by decide) (by omega) (by omega) (fun h1 => ?_) (fun h1 => ?_)
    · obtain rfl : i = 7 := by omega
      exact kk1 ls H locs hw hl
    · refine lv_iload_n hx hb dX0_spread_12 rfl (lv_at hl 1 rfl) ?_
      refine lv_iload hx hb dX0_spread_13 (lv_at hl 4 rfl) ?_
      refine nr_shr hx hb (by omega) (by omega) dX0_spread_15 ?_
      refine lv_iconst (v := (nI 1)) hx hb dX0_spread_16 (by decide) ?_
      refine nr_bt hx hb (by omega) dX0_spread_17 ?_
      refine lv_iconst (v := (nI 1)) hx hb dX0_spread_18 (by decide) ?_
      refine nr_ne (tgt := 36) hx hb dX0_spread_19 (by decide) (by have := pp_bt_lt S i; omega) (by omega) (fun h2 => ?_) (fun h2 => ?_)
      · rw [← pp_spr_n S k ge i h2] at hw
        rw [show pp_rest S k i = pp_rest S k (i + 1) from by rw [pp_rest, if_neg h2]] at hl
        refine lv_iinc (v := (nI (i + 1))) (lv' := [(4, .int (nI (i + 1))), (0, .ref (ad 0)), (1, .int (nI S)), (2, .int (nI k)), (3, .int (nI (pp_rest S k (i + 1))))]) hx hb dX0_spread_36 hl (k := 4) rfl (pn_inc _) (by decide) rfl (fun ls hl => ?_)
        refine lv_goto (tgt := 5) hx hb dX0_spread_39 (by decide) ?_
        exact ih (7 - (i + 1)) (by omega) (i + 1) ls H locs rfl (by omega) hw (lv_sub hl [1, 2, 3, 4, 0] rfl) kk1
      · refine lv_aload_n hx hb dX0_spread_22 rfl (lv_at hl 0 rfl) ?_
        refine xg_ge hC hw dX0_spread_23 ?_
        refine lv_iload hx hb dX0_spread_26 (lv_at hl 4 rfl) ?_
        refine lv_iload_n hx hb dX0_spread_28 rfl (lv_at hl 3 rfl) ?_
        refine lv_iconst (v := (nI 3)) hx hb dX0_spread_29 (by decide) ?_
        refine nr_rem hx hb (by have := pp_rest_le S k i; omega) (by decide) (by decide) dX0_spread_30 ?_
        refine xs_ge hC hw (by omega) dX0_spread_31 (fun H locs hw => ?_)
        rw [← pp_spr_s S k ge i h2] at hw
        refine lv_iload_n hx hb dX0_spread_32 rfl (lv_at hl 3 rfl) ?_
        refine lv_iconst (v := (nI 3)) hx hb dX0_spread_33 (by decide) ?_
        refine nr_div hx hb (by have := pp_rest_le S k i; omega) (by decide) (by decide) dX0_spread_34 ?_
        refine nr_top (y := (nI (pp_rest S k (i + 1)))) (by rw [pp_rest, if_pos h2]) ?_
        refine lv_istore_n (lv' := [(3, .int (nI (pp_rest S k (i + 1)))), (0, .ref (ad 0)), (1, .int (nI S)), (2, .int (nI k)), (4, .int (nI i))]) hx hb dX0_spread_35 rfl hl (by decide) rfl (fun ls hl => ?_)
        refine lv_iinc (v := (nI (i + 1))) (lv' := [(4, .int (nI (i + 1))), (3, .int (nI (pp_rest S k (i + 1)))), (0, .ref (ad 0)), (1, .int (nI S)), (2, .int (nI k))]) hx hb dX0_spread_36 hl (k := 4) rfl (pn_inc _) (by decide) rfl (fun ls hl => ?_)
        refine lv_goto (tgt := 5) hx hb dX0_spread_39 (by decide) ?_
        exact ih (7 - (i + 1)) (by omega) (i + 1) ls H locs rfl (by omega) hw (lv_sub hl [2, 3, 4, 1, 0] rfl) kk1
end PL_spread
set_option maxHeartbeats 4000000 in
set_option maxRecDepth 100000 in
theorem mX_spread (l : Launch) (D : va_G) (dA dL : ClassId) (ad : Nat → Nat) (cn qq : Nat) (mq fq sn al : Nat → Nat) (ow tb us : Nat) (sc bg : Nat → Nat) (ce : Nat → Int64) (ge : Nat → Nat) (S : Nat) (k : Nat) (hS : S < 128) (hk : k < 2 ^ 31) : Met l yX0_spread (ws_ yX0_spread cX0_spread 5 none) ({ frames := 0, cells := 0, slots := 0, locals := 0 } : Room) (pp_Pc D dA dL (pp_WX dA dL ad cn qq mq fq sn al ow tb us sc bg ce ge) [.ref (ad 0), .int (nI S), .int (nI k)]) (va_Qv (fun (_ : Unit) => True) (fun u t => va_P D vwCl ((fun (_ : Unit) => pp_WX dA dL ad cn qq mq fq sn al ow tb us sc bg ce (pp_spr S k ge 7)) u) t.heap) (pp_AX ad)) 0 0 (pp_AX ad) := by
  refine pp_ofX (by decide) rfl (Nat.le_of_ble_eq_true rfl) ?_
  intro p e s m below meth c ls hC hr hlocks hw hl
  have hx := hC.1.1
  have hb := hC.1.2.1
  have hl : lv_has ls 5 [(0, .ref (ad 0)), (1, .int (nI S)), (2, .int (nI k))] := hl
  refine lv_iload_n hx hb dX0_spread_0 rfl (lv_at hl 2 rfl) ?_
  refine lv_istore_n (lv' := [(3, .int (nI k)), (0, .ref (ad 0)), (1, .int (nI S)), (2, .int (nI k))]) hx hb dX0_spread_1 rfl hl (by decide) rfl (fun ls hl => ?_)
  refine lv_iconst (v := (nI 0)) hx hb dX0_spread_2 (by decide) ?_
  refine lv_istore (lv' := [(4, .int (nI 0)), (3, .int (nI k)), (0, .ref (ad 0)), (1, .int (nI S)), (2, .int (nI k))]) hx hb dX0_spread_3 hl (by decide) rfl (fun ls hl => ?_)
  refine lX_spread hC hS hk 7 0 ls _ _ rfl (by decide) (by rw [pp_spr_0]; exact hw) (lv_sub hl [2, 3, 4, 1, 0] rfl) (fun ls H locs hw hl => ?_)
  exact pp_rQ_v (F := fun (_ : Unit) => pp_WX dA dL ad cn qq mq fq sn al ow tb us sc bg ce (pp_spr S k ge 7)) hx hb hr hlocks dX0_spread_42 () trivial hw.1 hw.2.2
section PC_X_spread
variable {p : Program} {l : Launch} {e : Env} {R : Room} {s : State} {m : MethodId} {args : Array Value} {below : List Frame} {meth : Method} {c : Code} {H : Heap} {locs : List Loc} {cells slots : Nat} {Q : State → Prop}
variable {cc : ByteArray} {pc nL : Nat} {ls : Array Slot} {rest : List Value}
variable {D : va_G} {dA dL : ClassId} {ad : Nat → Nat} {A : Nat → Prop} {H0 : Heap} {cn qq : Nat} {mq fq sn al : Nat → Nat} {ow tb us : Nat} {sc bg : Nat → Nat} {ce : Nat → Int64} {ge : Nat → Nat}
set_option maxRecDepth 100000 in
theorem xc_spread (hC : pp_CX p m c cc nL s args RX0 D dA dL) (hw : pp_IX D dA dL ad A H0 cn qq mq fq sn al ow tb us sc bg ce ge H locs) {S : Nat} {k : Nat} (hS : S < 128) (hk : k < 2 ^ 31) (hR : pp_RM R cells slots 1 24) (hsz : ls.size = nL) (hrest : (rest.map fun v => v.category).sum ≤ 8) (hdg : decode cc pc = .ok (.invokevirtual 80, 3)) (kk : ∀ (H1 : Heap) (locs1 : List Loc), pp_IX D dA dL ad A H0 cn qq mq fq sn al ow tb us sc bg ce (pp_spr S k ge 7) H1 locs1 → (∀ q : Nat, q < H.size → ¬ pp_AX ad q → H1[q]? = H[q]?) → W p l e R s m args below meth c H1 locs1 cells slots Q (F0 m (pc + 3) ls rest)) : W p l e R s m args below meth c H locs cells slots Q (F0 m pc ls (.int (nI k) :: .int (nI S) :: .ref (ad 0) :: rest)) := pp_cQ_v (n := 2) (F := fun (_ : Unit) => pp_WX dA dL ad cn qq mq fq sn al ow tb us sc bg ce (pp_spr S k ge 7)) hC hw.1 hw.2.1 hw.2.2 (mX_spread l D dA dL ad cn qq mq fq sn al ow tb us sc bg ce ge S k hS hk) (pp_D_all hw.2.1 rfl) (lw_V q150 q152 qs9 q30 q153) (by decide +kernel) rfl rfl rfl hR (va_recv hC.2 hw.1 (ci := 0) (q0 := 0) rfl rfl) hsz hrest hdg rfl (fun _ H1 l1 _ hP hS hk => kk H1 l1 ⟨hP, pp_D_addr hw.2.1 rfl, hS⟩ hk)
end PC_X_spread
section PL_placeIn
variable {p : Program} {l : Launch} {e : Env} {R : Room} {s : State} {m : MethodId} {args : Array Value} {below : List Frame} {meth : Method} {c : Code} {H : Heap} {locs : List Loc} {cells slots : Nat} {Q : State → Prop}
variable {cc : ByteArray} {pc nL : Nat} {ls : Array Slot} {rest : List Value}
variable {D : va_G} {dA dL : ClassId} {ad : Nat → Nat} {A : Nat → Prop} {H0 : Heap} {cn qq : Nat} {mq fq sn al : Nat → Nat} {ow tb us : Nat} {sc bg : Nat → Nat} {ce : Nat → Int64} {ge : Nat → Nat}
set_option maxHeartbeats 4000000 in
set_option maxRecDepth 100000 in
theorem lX_placeIn (hC : pp_CX p m c cX0_placeIn 4 s args RX0 D dA dL) (hw : pp_IX D dA dL ad A H0 cn qq mq fq sn al ow tb us sc bg ce ge H locs) {S : Nat} (hS : S < 128) (kk : ∀ (ls : Array Slot), lv_has ls 4 [(0, .ref (ad 0)), (1, .int (nI S)), (2, .int (nI (pp_pf S ge (7 - 0) 0))), (3, .int (nI 0 - 1))] → W p l e R s m args below meth c H locs cells slots Q (F0 m 35 ls [])) : ∀ (n : Nat) (ls : Array Slot), n ≤ 7 → lv_has ls 4 [(0, .ref (ad 0)), (1, .int (nI S)), (2, .int (nI (pp_pf S ge (7 - n) n))), (3, .int (nI n - 1))] → W p l e R s m args below meth c H locs cells slots Q (F0 m 5 ls []) := by
  have hx := hC.1.1
  have hb := hC.1.2.1
  intro n
  induction n with
  | zero =>
    intro ls hn hl
    refine lv_iload_n hx hb dX0_placeIn_5 rfl (lv_at hl 3 rfl) ?_
    refine nr_m_lt (tgt := 35) hx hb dX0_placeIn_6 (by decide) (by omega) (fun h1 => ?_) (fun h1 => ?_)
    · exact kk ls hl
    · exact absurd rfl h1
  | succ n ih =>
    intro ls hn hl
    refine lv_iload_n hx hb dX0_placeIn_5 rfl (lv_at hl 3 rfl) ?_
    refine nr_m_lt (tgt := 35) hx hb dX0_placeIn_6 (by decide) (by omega) (fun h1 => ?_) (fun h1 => ?_)
    · exact absurd h1 (by omega)
    · rw [nI_pred] at hl
      refine lv_iload_n hx hb dX0_placeIn_9 rfl (lv_at hl 1 rfl) ?_
      refine lv_iload_n hx hb dX0_placeIn_10 rfl (lv_at hl 3 rfl) ?_
      refine nr_shr hx hb (by omega) (by omega) dX0_placeIn_11 ?_
      refine lv_iconst (v := (nI 1)) hx hb dX0_placeIn_12 (by decide) ?_
      refine nr_bt hx hb (by omega) dX0_placeIn_13 ?_
      refine lv_iconst (v := (nI 1)) hx hb dX0_placeIn_14 (by decide) ?_
      refine nr_ne (tgt := 29) hx hb dX0_placeIn_15 (by decide) (by have := pp_bt_lt S n; omega) (by omega) (fun h2 => ?_) (fun h2 => ?_)
      · rw [show pp_pf S ge (7 - (n + 1)) (n + 1) = pp_pf S ge (7 - n) n from by rw [show 7 - n = (7 - (n + 1)) + 1 by omega, pp_pf, if_neg h2]] at hl
        refine lv_iinc (v := (nI n - 1)) (lv' := [(3, .int (nI n - 1)), (0, .ref (ad 0)), (1, .int (nI S)), (2, .int (nI (pp_pf S ge (7 - n) n)))]) hx hb dX0_placeIn_29 hl (k := 3) rfl (pn_dec _) (by decide) rfl (fun ls hl => ?_)
        refine lv_goto (tgt := 5) hx hb dX0_placeIn_32 (by decide) ?_
        exact ih ls (by omega) (lv_sub hl [1, 2, 3, 0] rfl)
      · refine lv_iload_n hx hb dX0_placeIn_18 rfl (lv_at hl 2 rfl) ?_
        refine lv_iconst (v := (nI 3)) hx hb dX0_placeIn_19 (by decide) ?_
        refine nr_mul hx hb dX0_placeIn_20 ?_
        refine lv_aload_n hx hb dX0_placeIn_21 rfl (lv_at hl 0 rfl) ?_
        refine xg_ge hC hw dX0_placeIn_22 ?_
        refine lv_iload_n hx hb dX0_placeIn_25 rfl (lv_at hl 3 rfl) ?_
        refine xl_ge hC hw (by omega) dX0_placeIn_26 ?_
        refine nr_add hx hb dX0_placeIn_27 ?_
        refine nr_top (y := (nI (pp_pf S ge (7 - n) n))) (by rw [show 7 - n = (7 - (n + 1)) + 1 by omega, pp_pf, if_pos h2]) ?_
        refine lv_istore_n (lv' := [(2, .int (nI (pp_pf S ge (7 - n) n))), (0, .ref (ad 0)), (1, .int (nI S)), (3, .int (nI n))]) hx hb dX0_placeIn_28 rfl hl (by decide) rfl (fun ls hl => ?_)
        refine lv_iinc (v := (nI n - 1)) (lv' := [(3, .int (nI n - 1)), (2, .int (nI (pp_pf S ge (7 - n) n))), (0, .ref (ad 0)), (1, .int (nI S))]) hx hb dX0_placeIn_29 hl (k := 3) rfl (pn_dec _) (by decide) rfl (fun ls hl => ?_)
        refine lv_goto (tgt := 5) hx hb dX0_placeIn_32 (by decide) ?_
        exact ih ls (by omega) (lv_sub hl [2, 3, 1, 0] rfl)
end PL_placeIn
set_option maxHeartbeats 4000000 in
set_option maxRecDepth 100000 in
theorem mX_placeIn (l : Launch) (D : va_G) (dA dL : ClassId) (ad : Nat → Nat) (cn qq : Nat) (mq fq sn al : Nat → Nat) (ow tb us : Nat) (sc bg : Nat → Nat) (ce : Nat → Int64) (ge : Nat → Nat) (S : Nat) (hS : S < 128) : Met l yX0_placeIn (ws_ yX0_placeIn cX0_placeIn 4 (some .int)) ({ frames := 0, cells := 0, slots := 0, locals := 0 } : Room) (pp_Pc D dA dL (pp_WX dA dL ad cn qq mq fq sn al ow tb us sc bg ce ge) [.ref (ad 0), .int (nI S)]) (vp_Si (fun z0 => z0 = (nI (pp_pl S ge)))) 0 0 (fun _ => False) := by
  refine pp_ofX (by decide) rfl (Nat.le_of_ble_eq_true rfl) ?_
  intro p e s m below meth c ls hC hr hlocks hw hl
  have hx := hC.1.1
  have hb := hC.1.2.1
  have hl : lv_has ls 4 [(0, .ref (ad 0)), (1, .int (nI S))] := hl
  refine lv_iconst (v := (nI 0)) hx hb dX0_placeIn_0 (by decide) ?_
  refine lv_istore_n (lv' := [(2, .int (nI 0)), (0, .ref (ad 0)), (1, .int (nI S))]) hx hb dX0_placeIn_1 rfl hl (by decide) rfl (fun ls hl => ?_)
  refine lv_bipush (v := (nI 7 - 1)) hx hb dX0_placeIn_2 (by decide) ?_
  refine lv_istore_n (lv' := [(3, .int (nI 7 - 1)), (2, .int (nI 0)), (0, .ref (ad 0)), (1, .int (nI S))]) hx hb dX0_placeIn_4 rfl hl (by decide) rfl (fun ls hl => ?_)
  refine lX_placeIn hC hw hS (fun ls hl => ?_) 7 ls (by decide) (lv_sub hl [2, 3, 1, 0] rfl)
  refine lv_iload_n hx hb dX0_placeIn_35 rfl (lv_at hl 2 rfl) ?_
  exact pp_rS_i hx hb hr hlocks dX0_placeIn_36 rfl
section PC_X_placeIn
variable {p : Program} {l : Launch} {e : Env} {R : Room} {s : State} {m : MethodId} {args : Array Value} {below : List Frame} {meth : Method} {c : Code} {H : Heap} {locs : List Loc} {cells slots : Nat} {Q : State → Prop}
variable {cc : ByteArray} {pc nL : Nat} {ls : Array Slot} {rest : List Value}
variable {D : va_G} {dA dL : ClassId} {ad : Nat → Nat} {A : Nat → Prop} {H0 : Heap} {cn qq : Nat} {mq fq sn al : Nat → Nat} {ow tb us : Nat} {sc bg : Nat → Nat} {ce : Nat → Int64} {ge : Nat → Nat}
set_option maxRecDepth 100000 in
theorem xc_placeIn (hC : pp_CX p m c cc nL s args RX0 D dA dL) (hw : pp_IX D dA dL ad A H0 cn qq mq fq sn al ow tb us sc bg ce ge H locs) {S : Nat} (hS : S < 128) (hR : pp_RM R cells slots 1 23) (hsz : ls.size = nL) (hrest : (rest.map fun v => v.category).sum ≤ 8) (hdg : decode cc pc = .ok (.invokevirtual 91, 3)) (kk : W p l e R s m args below meth c H locs cells slots Q (F0 m (pc + 3) ls (.int (nI (pp_pl S ge)) :: rest))) : W p l e R s m args below meth c H locs cells slots Q (F0 m pc ls (.int (nI S) :: .ref (ad 0) :: rest)) := pp_cS_i (n := 1) hC hw.1 hw.2.1 (mX_placeIn l D dA dL ad cn qq mq fq sn al ow tb us sc bg ce ge S hS) (lw_V q182 q184 qs17 q30 q185) (by decide +kernel) rfl rfl rfl hR (va_recv hC.2 hw.1 (ci := 0) (q0 := 0) rfl rfl) hsz hrest hdg rfl (fun r h => by rw [h]; exact kk)
end PC_X_placeIn
set_option maxHeartbeats 4000000 in
set_option maxRecDepth 100000 in
theorem mX_founderWeight (l : Launch) (D : va_G) (dA dL : ClassId) (ad : Nat → Nat) (cn qq : Nat) (mq fq sn al : Nat → Nat) (ow tb us : Nat) (sc bg : Nat → Nat) (ce : Nat → Int64) (ge : Nat → Nat) (g : Nat) (hq : qq ≤ 16) (hg : g < 3) : Met l yX0_founderWeight (ws_ yX0_founderWeight cX0_founderWeight 2 (some .int)) ({ frames := 0, cells := 0, slots := 0, locals := 0 } : Room) (pp_Pc D dA dL (pp_WX dA dL ad cn qq mq fq sn al ow tb us sc bg ce ge) [.ref (ad 0), .int (nI g)]) (vp_Si (fun z0 => z0 = (nI (pp_fw qq g)))) 0 0 (fun _ => False) := by
  refine pp_ofX (by decide) rfl (Nat.le_of_ble_eq_true rfl) ?_
  intro p e s m below meth c ls hC hr hlocks hw hl
  have hx := hC.1.1
  have hb := hC.1.2.1
  have hl : lv_has ls 2 [(0, .ref (ad 0)), (1, .int (nI g))] := hl
  refine lv_iload_n hx hb dX0_founderWeight_0 rfl (lv_at hl 1 rfl) ?_
  refine nr_z_ne (tgt := 20) hx hb dX0_founderWeight_1 (by decide) (by omega) (fun h1 => ?_) (fun h1 => ?_)
  · refine lv_iload_n hx hb dX0_founderWeight_20 rfl (lv_at hl 1 rfl) ?_
    refine lv_iconst (v := (nI 1)) hx hb dX0_founderWeight_21 (by decide) ?_
    refine nr_ne (tgt := 42) hx hb dX0_founderWeight_22 (by decide) (by omega) (by omega) (fun h2 => ?_) (fun h2 => ?_)
    · refine lv_aload_n hx hb dX0_founderWeight_42 rfl (lv_at hl 0 rfl) ?_
      refine xg_qq hC hw dX0_founderWeight_43 ?_
      refine lv_aload_n hx hb dX0_founderWeight_46 rfl (lv_at hl 0 rfl) ?_
      refine xg_qq hC hw dX0_founderWeight_47 ?_
      refine nr_mul hx hb dX0_founderWeight_50 ?_
      exact pp_rS_i hx hb hr hlocks dX0_founderWeight_51 (by unfold pp_fw; first | rw [if_pos h1] | rw [if_neg h1, if_pos h2] | rw [if_neg h1, if_neg h2])
    · refine lv_iconst (v := (nI 2)) hx hb dX0_founderWeight_25 (by decide) ?_
      refine lv_aload_n hx hb dX0_founderWeight_26 rfl (lv_at hl 0 rfl) ?_
      refine xg_qq hC hw dX0_founderWeight_27 ?_
      refine nr_mul hx hb dX0_founderWeight_30 ?_
      refine lv_bipush (v := (nI 16)) hx hb dX0_founderWeight_31 (by decide) ?_
      refine lv_aload_n hx hb dX0_founderWeight_33 rfl (lv_at hl 0 rfl) ?_
      refine xg_qq hC hw dX0_founderWeight_34 ?_
      refine nr_sub hx hb (by omega) dX0_founderWeight_37 ?_
      refine nr_mul hx hb dX0_founderWeight_38 ?_
      refine lv_goto (tgt := 51) hx hb dX0_founderWeight_39 (by decide) ?_
      exact pp_rS_i hx hb hr hlocks dX0_founderWeight_51 (by unfold pp_fw; first | rw [if_pos h1] | rw [if_neg h1, if_pos h2] | rw [if_neg h1, if_neg h2])
  · refine lv_bipush (v := (nI 16)) hx hb dX0_founderWeight_4 (by decide) ?_
    refine lv_aload_n hx hb dX0_founderWeight_6 rfl (lv_at hl 0 rfl) ?_
    refine xg_qq hC hw dX0_founderWeight_7 ?_
    refine nr_sub hx hb (by omega) dX0_founderWeight_10 ?_
    refine lv_bipush (v := (nI 16)) hx hb dX0_founderWeight_11 (by decide) ?_
    refine lv_aload_n hx hb dX0_founderWeight_13 rfl (lv_at hl 0 rfl) ?_
    refine xg_qq hC hw dX0_founderWeight_14 ?_
    refine nr_sub hx hb (by omega) dX0_founderWeight_17 ?_
    refine nr_mul hx hb dX0_founderWeight_18 ?_
    exact pp_rS_i hx hb hr hlocks dX0_founderWeight_19 (by unfold pp_fw; first | rw [if_pos h1] | rw [if_neg h1, if_pos h2] | rw [if_neg h1, if_neg h2])
section PC_X_founderWeight
variable {p : Program} {l : Launch} {e : Env} {R : Room} {s : State} {m : MethodId} {args : Array Value} {below : List Frame} {meth : Method} {c : Code} {H : Heap} {locs : List Loc} {cells slots : Nat} {Q : State → Prop}
variable {cc : ByteArray} {pc nL : Nat} {ls : Array Slot} {rest : List Value}
variable {D : va_G} {dA dL : ClassId} {ad : Nat → Nat} {A : Nat → Prop} {H0 : Heap} {cn qq : Nat} {mq fq sn al : Nat → Nat} {ow tb us : Nat} {sc bg : Nat → Nat} {ce : Nat → Int64} {ge : Nat → Nat}
set_option maxRecDepth 100000 in
theorem xc_founderWeight (hC : pp_CX p m c cc nL s args RX0 D dA dL) (hw : pp_IX D dA dL ad A H0 cn qq mq fq sn al ow tb us sc bg ce ge H locs) {g : Nat} (hq : qq ≤ 16) (hg : g < 3) (hR : pp_RM R cells slots 1 21) (hsz : ls.size = nL) (hrest : (rest.map fun v => v.category).sum ≤ 8) (hdg : decode cc pc = .ok (.invokevirtual 53, 3)) (kk : W p l e R s m args below meth c H locs cells slots Q (F0 m (pc + 3) ls (.int (nI (pp_fw qq g)) :: rest))) : W p l e R s m args below meth c H locs cells slots Q (F0 m pc ls (.int (nI g) :: .ref (ad 0) :: rest)) := pp_cS_i (n := 1) hC hw.1 hw.2.1 (mX_founderWeight l D dA dL ad cn qq mq fq sn al ow tb us sc bg ce ge g hq hg) (lw_V q158 q160 qs11 q30 q161) (by decide +kernel) rfl rfl rfl hR (va_recv hC.2 hw.1 (ci := 0) (q0 := 0) rfl rfl) hsz hrest hdg rfl (fun r h => by rw [h]; exact kk)
end PC_X_founderWeight
set_option maxHeartbeats 4000000 in
set_option maxRecDepth 100000 in
theorem mX_passed (l : Launch) (D : va_G) (dA dL : ClassId) (ad : Nat → Nat) (cn qq : Nat) (mq fq sn al : Nat → Nat) (ow tb us : Nat) (sc bg : Nat → Nat) (ce : Nat → Int64) (ge : Nat → Nat) (g : Nat) (a : Nat) (b : Nat) (hg : g < 3) (ha : a < 3) (hb3 : b < 3) : Met l yX0_passed (ws_ yX0_passed cX0_passed 4 (some .int)) ({ frames := 0, cells := 0, slots := 0, locals := 0 } : Room) (pp_Pc D dA dL (pp_WX dA dL ad cn qq mq fq sn al ow tb us sc bg ce ge) [.ref (ad 0), .int (nI g), .int (nI a), .int (nI b)]) (vp_Si (fun z0 => z0 = (nI (pp_ps g a b)))) 0 0 (fun _ => False) := by
  refine pp_ofX (by decide) rfl (Nat.le_of_ble_eq_true rfl) ?_
  intro p e s m below meth c ls hC hr hlocks hw hl
  have hx := hC.1.1
  have hb := hC.1.2.1
  have hl : lv_has ls 4 [(0, .ref (ad 0)), (1, .int (nI g)), (2, .int (nI a)), (3, .int (nI b))] := hl
  refine lv_iload_n hx hb dX0_passed_0 rfl (lv_at hl 1 rfl) ?_
  refine nr_z_ne (tgt := 12) hx hb dX0_passed_1 (by decide) (by omega) (fun h1 => ?_) (fun h1 => ?_)
  · refine lv_iload_n hx hb dX0_passed_12 rfl (lv_at hl 1 rfl) ?_
    refine lv_iconst (v := (nI 1)) hx hb dX0_passed_13 (by decide) ?_
    refine nr_ne (tgt := 31) hx hb dX0_passed_14 (by decide) (by omega) (by omega) (fun h2 => ?_) (fun h2 => ?_)
    · refine lv_iload_n hx hb dX0_passed_31 rfl (lv_at hl 2 rfl) ?_
      refine lv_iload_n hx hb dX0_passed_32 rfl (lv_at hl 3 rfl) ?_
      refine nr_mul hx hb dX0_passed_33 ?_
      exact pp_rS_i hx hb hr hlocks dX0_passed_34 (by unfold pp_ps; first | rw [if_pos h1] | rw [if_neg h1, if_pos h2] | rw [if_neg h1, if_neg h2])
    · refine lv_iload_n hx hb dX0_passed_17 rfl (lv_at hl 2 rfl) ?_
      refine lv_iconst (v := (nI 2)) hx hb dX0_passed_18 (by decide) ?_
      refine lv_iload_n hx hb dX0_passed_19 rfl (lv_at hl 3 rfl) ?_
      refine nr_sub hx hb (by omega) dX0_passed_20 ?_
      refine nr_mul hx hb dX0_passed_21 ?_
      refine lv_iconst (v := (nI 2)) hx hb dX0_passed_22 (by decide) ?_
      refine lv_iload_n hx hb dX0_passed_23 rfl (lv_at hl 2 rfl) ?_
      refine nr_sub hx hb (by omega) dX0_passed_24 ?_
      refine lv_iload_n hx hb dX0_passed_25 rfl (lv_at hl 3 rfl) ?_
      refine nr_mul hx hb dX0_passed_26 ?_
      refine nr_add hx hb dX0_passed_27 ?_
      refine lv_goto (tgt := 34) hx hb dX0_passed_28 (by decide) ?_
      exact pp_rS_i hx hb hr hlocks dX0_passed_34 (by unfold pp_ps; first | rw [if_pos h1] | rw [if_neg h1, if_pos h2] | rw [if_neg h1, if_neg h2])
  · refine lv_iconst (v := (nI 2)) hx hb dX0_passed_4 (by decide) ?_
    refine lv_iload_n hx hb dX0_passed_5 rfl (lv_at hl 2 rfl) ?_
    refine nr_sub hx hb (by omega) dX0_passed_6 ?_
    refine lv_iconst (v := (nI 2)) hx hb dX0_passed_7 (by decide) ?_
    refine lv_iload_n hx hb dX0_passed_8 rfl (lv_at hl 3 rfl) ?_
    refine nr_sub hx hb (by omega) dX0_passed_9 ?_
    refine nr_mul hx hb dX0_passed_10 ?_
    exact pp_rS_i hx hb hr hlocks dX0_passed_11 (by unfold pp_ps; first | rw [if_pos h1] | rw [if_neg h1, if_pos h2] | rw [if_neg h1, if_neg h2])
section PC_X_passed
variable {p : Program} {l : Launch} {e : Env} {R : Room} {s : State} {m : MethodId} {args : Array Value} {below : List Frame} {meth : Method} {c : Code} {H : Heap} {locs : List Loc} {cells slots : Nat} {Q : State → Prop}
variable {cc : ByteArray} {pc nL : Nat} {ls : Array Slot} {rest : List Value}
variable {D : va_G} {dA dL : ClassId} {ad : Nat → Nat} {A : Nat → Prop} {H0 : Heap} {cn qq : Nat} {mq fq sn al : Nat → Nat} {ow tb us : Nat} {sc bg : Nat → Nat} {ce : Nat → Int64} {ge : Nat → Nat}
set_option maxRecDepth 100000 in
theorem xc_passed (hC : pp_CX p m c cc nL s args RX0 D dA dL) (hw : pp_IX D dA dL ad A H0 cn qq mq fq sn al ow tb us sc bg ce ge H locs) {g : Nat} {a : Nat} {b : Nat} (hg : g < 3) (ha : a < 3) (hb3 : b < 3) (hR : pp_RM R cells slots 1 23) (hsz : ls.size = nL) (hrest : (rest.map fun v => v.category).sum ≤ 8) (hdg : decode cc pc = .ok (.invokevirtual 57, 3)) (kk : W p l e R s m args below meth c H locs cells slots Q (F0 m (pc + 3) ls (.int (nI (pp_ps g a b)) :: rest))) : W p l e R s m args below meth c H locs cells slots Q (F0 m pc ls (.int (nI b) :: .int (nI a) :: .int (nI g) :: .ref (ad 0) :: rest)) := pp_cS_i (n := 3) hC hw.1 hw.2.1 (mX_passed l D dA dL ad cn qq mq fq sn al ow tb us sc bg ce ge g a b hg ha hb3) (lw_V q162 q164 qs12 q30 q165) (by decide +kernel) rfl rfl rfl hR (va_recv hC.2 hw.1 (ci := 0) (q0 := 0) rfl rfl) hsz hrest hdg rfl (fun r h => by rw [h]; exact kk)
end PC_X_passed
section PL_around
variable {p : Program} {l : Launch} {e : Env} {R : Room} {s : State} {m : MethodId} {args : Array Value} {below : List Frame} {meth : Method} {c : Code} {H : Heap} {locs : List Loc} {cells slots : Nat} {Q : State → Prop}
variable {cc : ByteArray} {pc nL : Nat} {ls : Array Slot} {rest : List Value}
variable {D : va_G} {dA dL : ClassId} {ad : Nat → Nat} {A : Nat → Prop} {H0 : Heap} {cn qq : Nat} {mq fq sn al : Nat → Nat} {ow tb us : Nat} {sc bg : Nat → Nat} {ce : Nat → Int64} {ge : Nat → Nat}
set_option maxHeartbeats 4000000 in
set_option maxRecDepth 100000 in
theorem lX_around (hC : pp_CX p m c cX0_around 4 s args RX0 D dA dL) (hw : pp_IX D dA dL ad A H0 cn qq mq fq sn al ow tb us sc bg ce ge H locs) {r : Nat} (hp : r < 7) (htb : tb ≤ 16) (hs : ∀ t, t < tb → sc t < 128) : ∀ (n : Nat) (i : Nat) (ls : Array Slot), tb - i = n → i ≤ tb → lv_has ls 4 [(0, .ref (ad 0)), (1, .int (nI r)), (2, .int (nI (pp_orr sc r i))), (3, .int (nI i))] → (∀ (ls : Array Slot), lv_has ls 4 [(0, .ref (ad 0)), (1, .int (nI r)), (2, .int (nI (pp_orr sc r tb))), (3, .int (nI tb))] → W p l e R s m args below meth c H locs cells slots Q (F0 m 41 ls [])) → W p l e R s m args below meth c H locs cells slots Q (F0 m 4 ls []) := by
  have hx := hC.1.1
  have hb := hC.1.2.1
  intro n
  induction n using Nat.strongRecOn with
  | ind n ih =>
    intro i ls hn g1 hl kk1
    refine lv_iload_n hx hb dX0_around_4 rfl (lv_at hl 3 rfl) ?_
    refine lv_aload_n hx hb dX0_around_5 rfl (lv_at hl 0 rfl) ?_
    refine xg_tb hC hw dX0_around_6 ?_
    refine nr_ge (tgt := 41) hx hb dX0_around_9 (by decide) (by omega) (by omega) (fun h1 => ?_) (fun h1 => ?_)
    · obtain rfl : i = tb := by omega
      exact kk1 ls hl
    · refine lv_aload_n hx hb dX0_around_12 rfl (lv_at hl 0 rfl) ?_
      refine xg_sc hC hw dX0_around_13 ?_
      refine lv_iload_n hx hb dX0_around_16 rfl (lv_at hl 3 rfl) ?_
      refine xl_sc hC hw (by omega) dX0_around_17 ?_
      refine lv_iload_n hx hb dX0_around_18 rfl (lv_at hl 1 rfl) ?_
      refine nr_shr hx hb (by have := hs i h1; omega) (by omega) dX0_around_19 ?_
      refine lv_iconst (v := (nI 1)) hx hb dX0_around_20 (by decide) ?_
      refine nr_bt hx hb (by have := hs i h1; omega) dX0_around_21 ?_
      refine lv_iconst (v := (nI 1)) hx hb dX0_around_22 (by decide) ?_
      refine nr_ne (tgt := 35) hx hb dX0_around_23 (by decide) (by have := pp_bt_lt (sc i) r; omega) (by omega) (fun h2 => ?_) (fun h2 => ?_)
      · rw [show pp_orr sc r i = pp_orr sc r (i + 1) from by rw [pp_orr, if_neg h2]] at hl
        refine lv_iinc (v := (nI (i + 1))) (lv' := [(3, .int (nI (i + 1))), (0, .ref (ad 0)), (1, .int (nI r)), (2, .int (nI (pp_orr sc r (i + 1))))]) hx hb dX0_around_35 hl (k := 3) rfl (pn_inc _) (by decide) rfl (fun ls hl => ?_)
        refine lv_goto (tgt := 4) hx hb dX0_around_38 (by decide) ?_
        exact ih (tb - (i + 1)) (by omega) (i + 1) ls rfl (by omega) (lv_sub hl [1, 2, 3, 0] rfl) kk1
      · refine lv_iload_n hx hb dX0_around_26 rfl (lv_at hl 2 rfl) ?_
        refine lv_aload_n hx hb dX0_around_27 rfl (lv_at hl 0 rfl) ?_
        refine xg_sc hC hw dX0_around_28 ?_
        refine lv_iload_n hx hb dX0_around_31 rfl (lv_at hl 3 rfl) ?_
        refine xl_sc hC hw (by omega) dX0_around_32 ?_
        refine nr_or hx hb dX0_around_33 ?_
        refine nr_top (y := (nI (pp_orr sc r (i + 1)))) (by rw [pp_orr, if_pos h2]) ?_
        refine lv_istore_n (lv' := [(2, .int (nI (pp_orr sc r (i + 1)))), (0, .ref (ad 0)), (1, .int (nI r)), (3, .int (nI i))]) hx hb dX0_around_34 rfl hl (by decide) rfl (fun ls hl => ?_)
        refine lv_iinc (v := (nI (i + 1))) (lv' := [(3, .int (nI (i + 1))), (2, .int (nI (pp_orr sc r (i + 1)))), (0, .ref (ad 0)), (1, .int (nI r))]) hx hb dX0_around_35 hl (k := 3) rfl (pn_inc _) (by decide) rfl (fun ls hl => ?_)
        refine lv_goto (tgt := 4) hx hb dX0_around_38 (by decide) ?_
        exact ih (tb - (i + 1)) (by omega) (i + 1) ls rfl (by omega) (lv_sub hl [2, 3, 1, 0] rfl) kk1
end PL_around
set_option maxHeartbeats 4000000 in
set_option maxRecDepth 100000 in
theorem mX_around (l : Launch) (D : va_G) (dA dL : ClassId) (ad : Nat → Nat) (cn qq : Nat) (mq fq sn al : Nat → Nat) (ow tb us : Nat) (sc bg : Nat → Nat) (ce : Nat → Int64) (ge : Nat → Nat) (r : Nat) (hp : r < 7) (htb : tb ≤ 16) (hs : ∀ t, t < tb → sc t < 128) : Met l yX0_around (ws_ yX0_around cX0_around 4 (some .int)) ({ frames := 0, cells := 0, slots := 0, locals := 0 } : Room) (pp_Pc D dA dL (pp_WX dA dL ad cn qq mq fq sn al ow tb us sc bg ce ge) [.ref (ad 0), .int (nI r)]) (vp_Si (fun z0 => z0 = (nI (pp_ar sc r tb)))) 0 0 (fun _ => False) := by
  refine pp_ofX (by decide) rfl (Nat.le_of_ble_eq_true rfl) ?_
  intro p e s m below meth c ls hC hr hlocks hw hl
  have hx := hC.1.1
  have hb := hC.1.2.1
  have hl : lv_has ls 4 [(0, .ref (ad 0)), (1, .int (nI r))] := hl
  refine lv_iconst (v := (nI 0)) hx hb dX0_around_0 (by decide) ?_
  refine lv_istore_n (lv' := [(2, .int (nI 0)), (0, .ref (ad 0)), (1, .int (nI r))]) hx hb dX0_around_1 rfl hl (by decide) rfl (fun ls hl => ?_)
  refine lv_iconst (v := (nI 0)) hx hb dX0_around_2 (by decide) ?_
  refine lv_istore_n (lv' := [(3, .int (nI 0)), (2, .int (nI 0)), (0, .ref (ad 0)), (1, .int (nI r))]) hx hb dX0_around_3 rfl hl (by decide) rfl (fun ls hl => ?_)
  refine lX_around hC hw hp htb hs tb 0 ls rfl (Nat.zero_le tb) (lv_sub hl [2, 3, 1, 0] rfl) (fun ls hl => ?_)
  refine lv_iload_n hx hb dX0_around_41 rfl (lv_at hl 2 rfl) ?_
  refine lv_iconst (v := (nI 1)) hx hb dX0_around_42 (by decide) ?_
  refine lv_iload_n hx hb dX0_around_43 rfl (lv_at hl 1 rfl) ?_
  refine nr_shl1 hx hb (by omega) dX0_around_44 ?_
  refine lv_iconst (v := (-1)) hx hb dX0_around_45 (by decide) ?_
  refine lv_ixor hx hb dX0_around_46 ?_
  refine nr_clr hx hb (pp_orr_lt tb hs) hp dX0_around_47 ?_
  exact pp_rS_i hx hb hr hlocks dX0_around_48 rfl
section PC_X_around
variable {p : Program} {l : Launch} {e : Env} {R : Room} {s : State} {m : MethodId} {args : Array Value} {below : List Frame} {meth : Method} {c : Code} {H : Heap} {locs : List Loc} {cells slots : Nat} {Q : State → Prop}
variable {cc : ByteArray} {pc nL : Nat} {ls : Array Slot} {rest : List Value}
variable {D : va_G} {dA dL : ClassId} {ad : Nat → Nat} {A : Nat → Prop} {H0 : Heap} {cn qq : Nat} {mq fq sn al : Nat → Nat} {ow tb us : Nat} {sc bg : Nat → Nat} {ce : Nat → Int64} {ge : Nat → Nat}
set_option maxRecDepth 100000 in
theorem xc_around (hC : pp_CX p m c cc nL s args RX0 D dA dL) (hw : pp_IX D dA dL ad A H0 cn qq mq fq sn al ow tb us sc bg ce ge H locs) {r : Nat} (hp : r < 7) (htb : tb ≤ 16) (hs : ∀ t, t < tb → sc t < 128) (hR : pp_RM R cells slots 1 23) (hsz : ls.size = nL) (hrest : (rest.map fun v => v.category).sum ≤ 8) (hdg : decode cc pc = .ok (.invokevirtual 88, 3)) (kk : W p l e R s m args below meth c H locs cells slots Q (F0 m (pc + 3) ls (.int (nI (pp_ar sc r tb)) :: rest))) : W p l e R s m args below meth c H locs cells slots Q (F0 m pc ls (.int (nI r) :: .ref (ad 0) :: rest)) := pp_cS_i (n := 1) hC hw.1 hw.2.1 (mX_around l D dA dL ad cn qq mq fq sn al ow tb us sc bg ce ge r hp htb hs) (lw_V q170 q172 qs14 q30 q173) (by decide +kernel) rfl rfl rfl hR (va_recv hC.2 hw.1 (ci := 0) (q0 := 0) rfl rfl) hsz hrest hdg rfl (fun r h => by rw [h]; exact kk)
end PC_X_around
set_option maxHeartbeats 4000000 in
set_option maxRecDepth 100000 in
theorem mX_bad (l : Launch) (D : va_G) (dA dL : ClassId) (ad : Nat → Nat) (cn qq : Nat) (mq fq sn al : Nat → Nat) (ow tb us : Nat) (sc bg : Nat → Nat) (ce : Nat → Int64) (ge : Nat → Nat) (x : Int32) : Met l yX0_bad (ws_ yX0_bad cX0_bad 2 (some .boolean)) ({ frames := 0, cells := 0, slots := 0, locals := 0 } : Room) (pp_Pc D dA dL (pp_WX dA dL ad cn qq mq fq sn al ow tb us sc bg ce ge) [.ref (ad 0), .int x]) (vp_Si (fun z0 => z0 = (nI (pp_bad cn x)))) 0 0 (fun _ => False) := by
  refine pp_ofX (by decide) rfl (Nat.le_of_ble_eq_true rfl) ?_
  intro p e s m below meth c ls hC hr hlocks hw hl
  have hx := hC.1.1
  have hb := hC.1.2.1
  have hl : lv_has ls 2 [(0, .ref (ad 0)), (1, .int x)] := hl
  refine lv_iload_n hx hb dX0_bad_0 rfl (lv_at hl 1 rfl) ?_
  refine lv_if_lt (tgt := 12) hx hb dX0_bad_1 (by decide) (fun h1 => ?_) (fun h1 => ?_)
  · refine lv_iconst (v := (nI 1)) hx hb dX0_bad_12 (by decide) ?_
    refine lv_goto (tgt := 17) hx hb dX0_bad_13 (by decide) ?_
    exact pp_rS_z hx hb hr hlocks dX0_bad_17 (by unfold pp_bad; first | rw [if_pos (Or.inl h1)] | rw [if_pos (Or.inr h2)] | rw [if_neg (fun z => z.elim h1 (fun y => y h2))]) (by decide)
  · refine lv_iload_n hx hb dX0_bad_4 rfl (lv_at hl 1 rfl) ?_
    refine lv_aload_n hx hb dX0_bad_5 rfl (lv_at hl 0 rfl) ?_
    refine xg_cn hC hw dX0_bad_6 ?_
    refine lv_icmp_lt (tgt := 16) hx hb dX0_bad_9 (by decide) (fun h2 => ?_) (fun h2 => ?_)
    · refine lv_iconst (v := (nI 0)) hx hb dX0_bad_16 (by decide) ?_
      exact pp_rS_z hx hb hr hlocks dX0_bad_17 (by unfold pp_bad; first | rw [if_pos (Or.inl h1)] | rw [if_pos (Or.inr h2)] | rw [if_neg (fun z => z.elim h1 (fun y => y h2))]) (by decide)
    · refine lv_iconst (v := (nI 1)) hx hb dX0_bad_12 (by decide) ?_
      refine lv_goto (tgt := 17) hx hb dX0_bad_13 (by decide) ?_
      exact pp_rS_z hx hb hr hlocks dX0_bad_17 (by unfold pp_bad; first | rw [if_pos (Or.inl h1)] | rw [if_pos (Or.inr h2)] | rw [if_neg (fun z => z.elim h1 (fun y => y h2))]) (by decide)
section PC_X_bad
variable {p : Program} {l : Launch} {e : Env} {R : Room} {s : State} {m : MethodId} {args : Array Value} {below : List Frame} {meth : Method} {c : Code} {H : Heap} {locs : List Loc} {cells slots : Nat} {Q : State → Prop}
variable {cc : ByteArray} {pc nL : Nat} {ls : Array Slot} {rest : List Value}
variable {D : va_G} {dA dL : ClassId} {ad : Nat → Nat} {A : Nat → Prop} {H0 : Heap} {cn qq : Nat} {mq fq sn al : Nat → Nat} {ow tb us : Nat} {sc bg : Nat → Nat} {ce : Nat → Int64} {ge : Nat → Nat}
set_option maxRecDepth 100000 in
theorem xc_bad (hC : pp_CX p m c cc nL s args RX0 D dA dL) (hw : pp_IX D dA dL ad A H0 cn qq mq fq sn al ow tb us sc bg ce ge H locs) {x : Int32} (hR : pp_RM R cells slots 1 21) (hsz : ls.size = nL) (hrest : (rest.map fun v => v.category).sum ≤ 8) (hdg : decode cc pc = .ok (.invokevirtual 46, 3)) (kk : W p l e R s m args below meth c H locs cells slots Q (F0 m (pc + 3) ls (.int (nI (pp_bad cn x)) :: rest))) : W p l e R s m args below meth c H locs cells slots Q (F0 m pc ls (.int x :: .ref (ad 0) :: rest)) := pp_cS_i (n := 1) hC hw.1 hw.2.1 (mX_bad l D dA dL ad cn qq mq fq sn al ow tb us sc bg ce ge x) (lw_V q94 q96 qs1 q30 q97) (by decide +kernel) rfl rfl rfl hR (va_recv hC.2 hw.1 (ci := 0) (q0 := 0) rfl rfl) hsz hrest hdg rfl (fun r h => by rw [h]; exact kk)
end PC_X_bad
set_option maxHeartbeats 4000000 in
set_option maxRecDepth 100000 in
theorem mX_badGenotype (l : Launch) (D : va_G) (dA dL : ClassId) (ad : Nat → Nat) (cn qq : Nat) (mq fq sn al : Nat → Nat) (ow tb us : Nat) (sc bg : Nat → Nat) (ce : Nat → Int64) (ge : Nat → Nat) (x : Int32) : Met l yX0_badGenotype (ws_ yX0_badGenotype cX0_badGenotype 2 (some .boolean)) ({ frames := 0, cells := 0, slots := 0, locals := 0 } : Room) (pp_Pc D dA dL (pp_WX dA dL ad cn qq mq fq sn al ow tb us sc bg ce ge) [.ref (ad 0), .int x]) (vp_Si (fun z0 => z0 = (nI (pp_bdg x)))) 0 0 (fun _ => False) := by
  refine pp_ofX (by decide) rfl (Nat.le_of_ble_eq_true rfl) ?_
  intro p e s m below meth c ls hC hr hlocks hw hl
  have hx := hC.1.1
  have hb := hC.1.2.1
  have hl : lv_has ls 2 [(0, .ref (ad 0)), (1, .int x)] := hl
  refine lv_iload_n hx hb dX0_badGenotype_0 rfl (lv_at hl 1 rfl) ?_
  refine lv_if_lt (tgt := 9) hx hb dX0_badGenotype_1 (by decide) (fun h1 => ?_) (fun h1 => ?_)
  · refine lv_iconst (v := (nI 1)) hx hb dX0_badGenotype_9 (by decide) ?_
    refine lv_goto (tgt := 14) hx hb dX0_badGenotype_10 (by decide) ?_
    exact pp_rS_z hx hb hr hlocks dX0_badGenotype_14 (by unfold pp_bdg; first | rw [if_pos (Or.inl h1)] | rw [if_pos (Or.inr h2)] | rw [if_neg (fun z => z.elim h1 (fun y => y h2))]) (by decide)
  · refine lv_iload_n hx hb dX0_badGenotype_4 rfl (lv_at hl 1 rfl) ?_
    refine lv_iconst (v := (nI 2)) hx hb dX0_badGenotype_5 (by decide) ?_
    refine lv_icmp_le (tgt := 13) hx hb dX0_badGenotype_6 (by decide) (fun h2 => ?_) (fun h2 => ?_)
    · refine lv_iconst (v := (nI 0)) hx hb dX0_badGenotype_13 (by decide) ?_
      exact pp_rS_z hx hb hr hlocks dX0_badGenotype_14 (by unfold pp_bdg; first | rw [if_pos (Or.inl h1)] | rw [if_pos (Or.inr h2)] | rw [if_neg (fun z => z.elim h1 (fun y => y h2))]) (by decide)
    · refine lv_iconst (v := (nI 1)) hx hb dX0_badGenotype_9 (by decide) ?_
      refine lv_goto (tgt := 14) hx hb dX0_badGenotype_10 (by decide) ?_
      exact pp_rS_z hx hb hr hlocks dX0_badGenotype_14 (by unfold pp_bdg; first | rw [if_pos (Or.inl h1)] | rw [if_pos (Or.inr h2)] | rw [if_neg (fun z => z.elim h1 (fun y => y h2))]) (by decide)
section PC_X_badGenotype
variable {p : Program} {l : Launch} {e : Env} {R : Room} {s : State} {m : MethodId} {args : Array Value} {below : List Frame} {meth : Method} {c : Code} {H : Heap} {locs : List Loc} {cells slots : Nat} {Q : State → Prop}
variable {cc : ByteArray} {pc nL : Nat} {ls : Array Slot} {rest : List Value}
variable {D : va_G} {dA dL : ClassId} {ad : Nat → Nat} {A : Nat → Prop} {H0 : Heap} {cn qq : Nat} {mq fq sn al : Nat → Nat} {ow tb us : Nat} {sc bg : Nat → Nat} {ce : Nat → Int64} {ge : Nat → Nat}
set_option maxRecDepth 100000 in
theorem xc_badGenotype (hC : pp_CX p m c cc nL s args RX0 D dA dL) (hw : pp_IX D dA dL ad A H0 cn qq mq fq sn al ow tb us sc bg ce ge H locs) {x : Int32} (hR : pp_RM R cells slots 1 21) (hsz : ls.size = nL) (hrest : (rest.map fun v => v.category).sum ≤ 8) (hdg : decode cc pc = .ok (.invokevirtual 50, 3)) (kk : W p l e R s m args below meth c H locs cells slots Q (F0 m (pc + 3) ls (.int (nI (pp_bdg x)) :: rest))) : W p l e R s m args below meth c H locs cells slots Q (F0 m pc ls (.int x :: .ref (ad 0) :: rest)) := pp_cS_i (n := 1) hC hw.1 hw.2.1 (mX_badGenotype l D dA dL ad cn qq mq fq sn al ow tb us sc bg ce ge x) (lw_V q114 q116 qs2 q30 q117) (by decide +kernel) rfl rfl rfl hR (va_recv hC.2 hw.1 (ci := 0) (q0 := 0) rfl rfl) hsz hrest hdg rfl (fun r h => by rw [h]; exact kk)
end PC_X_badGenotype
section PL_allowAll
variable {p : Program} {l : Launch} {e : Env} {R : Room} {s : State} {m : MethodId} {args : Array Value} {below : List Frame} {meth : Method} {c : Code} {H : Heap} {locs : List Loc} {cells slots : Nat} {Q : State → Prop}
variable {cc : ByteArray} {pc nL : Nat} {ls : Array Slot} {rest : List Value}
variable {D : va_G} {dA dL : ClassId} {ad : Nat → Nat} {A : Nat → Prop} {H0 : Heap} {cn qq : Nat} {mq fq sn al : Nat → Nat} {ow tb us : Nat} {sc bg : Nat → Nat} {ce : Nat → Int64} {ge : Nat → Nat}
set_option maxHeartbeats 4000000 in
set_option maxRecDepth 100000 in
theorem lX_allowAll (hC : pp_CX p m c cX0_allowAll 2 s args RX0 D dA dL)  : ∀ (n : Nat) (i : Nat) (ls : Array Slot) (H : Heap) (locs : List Loc), 7 - i = n → i ≤ 7 → pp_IX D dA dL ad A H0 cn qq mq fq sn (pp_al7 al i) ow tb us sc bg ce ge H locs → lv_has ls 2 [(0, .ref (ad 0)), (1, .int (nI i))] → (∀ (ls : Array Slot) (H : Heap) (locs : List Loc), pp_IX D dA dL ad A H0 cn qq mq fq sn (pp_al7 al 7) ow tb us sc bg ce ge H locs → lv_has ls 2 [(0, .ref (ad 0)), (1, .int (nI 7))] → W p l e R s m args below meth c H locs cells slots Q (F0 m 27 ls [])) → W p l e R s m args below meth c H locs cells slots Q (F0 m 7 ls []) := by
  have hx := hC.1.1
  have hb := hC.1.2.1
  intro n
  induction n using Nat.strongRecOn with
  | ind n ih =>
    intro i ls H locs hn g1 hw hl kk1
    refine lv_iload_n hx hb dX0_allowAll_7 rfl (lv_at hl 1 rfl) ?_
    refine lv_bipush (v := (nI 7)) hx hb dX0_allowAll_8 (by decide) ?_
    refine nr_ge (tgt := 27) hx hb dX0_allowAll_10 (by decide) (by omega) (by omega) (fun h1 => ?_) (fun h1 => ?_)
    · obtain rfl : i = 7 := by omega
      exact kk1 ls H locs hw hl
    · refine lv_aload_n hx hb dX0_allowAll_13 rfl (lv_at hl 0 rfl) ?_
      refine xg_al hC hw dX0_allowAll_14 ?_
      refine lv_iload_n hx hb dX0_allowAll_17 rfl (lv_at hl 1 rfl) ?_
      refine lv_bipush (v := (nI 7)) hx hb dX0_allowAll_18 (by decide) ?_
      refine xs_al hC hw (by omega) dX0_allowAll_20 (fun H locs hw => ?_)
      rw [pp_al7_s] at hw
      refine lv_iinc (v := (nI (i + 1))) (lv' := [(1, .int (nI (i + 1))), (0, .ref (ad 0))]) hx hb dX0_allowAll_21 hl (k := 1) rfl (pn_inc _) (by decide) rfl (fun ls hl => ?_)
      refine lv_goto (tgt := 7) hx hb dX0_allowAll_24 (by decide) ?_
      exact ih (7 - (i + 1)) (by omega) (i + 1) ls H locs rfl (by omega) hw (lv_sub hl [1, 0] rfl) kk1
end PL_allowAll
set_option maxHeartbeats 4000000 in
set_option maxRecDepth 100000 in
theorem mX_allowAll (l : Launch) (D : va_G) (dA dL : ClassId) (ad : Nat → Nat) (cn qq : Nat) (mq fq sn al : Nat → Nat) (ow tb us : Nat) (sc bg : Nat → Nat) (ce : Nat → Int64) (ge : Nat → Nat)  : Met l yX0_allowAll (ws_ yX0_allowAll cX0_allowAll 2 none) ({ frames := 0, cells := 0, slots := 0, locals := 0 } : Room) (pp_Pc D dA dL (pp_WX dA dL ad cn qq mq fq sn al ow tb us sc bg ce ge) [.ref (ad 0)]) (va_Qv (fun (_ : Unit) => True) (fun u t => va_P D vwCl ((fun (_ : Unit) => pp_WX dA dL ad cn qq mq fq sn (pp_al7 al 7) 0 tb us sc bg ce ge) u) t.heap) (pp_AX ad)) 0 0 (pp_AX ad) := by
  refine pp_ofX (by decide) rfl (Nat.le_of_ble_eq_true rfl) ?_
  intro p e s m below meth c ls hC hr hlocks hw hl
  have hx := hC.1.1
  have hb := hC.1.2.1
  have hl : lv_has ls 2 [(0, .ref (ad 0))] := hl
  refine lv_aload_n hx hb dX0_allowAll_0 rfl (lv_at hl 0 rfl) ?_
  refine lv_iconst (v := (nI 0)) hx hb dX0_allowAll_1 (by decide) ?_
  refine xp_ow hC hw rfl rfl dX0_allowAll_2 (fun H locs hw => ?_)
  refine lv_iconst (v := (nI 0)) hx hb dX0_allowAll_5 (by decide) ?_
  refine lv_istore_n (lv' := [(1, .int (nI 0)), (0, .ref (ad 0))]) hx hb dX0_allowAll_6 rfl hl (by decide) rfl (fun ls hl => ?_)
  refine lX_allowAll hC 7 0 ls _ _ rfl (by decide) (by rw [pp_al7_0]; exact hw) (lv_sub hl [1, 0] rfl) (fun ls H locs hw hl => ?_)
  exact pp_rQ_v (F := fun (_ : Unit) => pp_WX dA dL ad cn qq mq fq sn (pp_al7 al 7) 0 tb us sc bg ce ge) hx hb hr hlocks dX0_allowAll_27 () trivial hw.1 hw.2.2
section PC_X_allowAll
variable {p : Program} {l : Launch} {e : Env} {R : Room} {s : State} {m : MethodId} {args : Array Value} {below : List Frame} {meth : Method} {c : Code} {H : Heap} {locs : List Loc} {cells slots : Nat} {Q : State → Prop}
variable {cc : ByteArray} {pc nL : Nat} {ls : Array Slot} {rest : List Value}
variable {D : va_G} {dA dL : ClassId} {ad : Nat → Nat} {A : Nat → Prop} {H0 : Heap} {cn qq : Nat} {mq fq sn al : Nat → Nat} {ow tb us : Nat} {sc bg : Nat → Nat} {ce : Nat → Int64} {ge : Nat → Nat}
set_option maxRecDepth 100000 in
theorem xc_allowAll (hC : pp_CX p m c cc nL s args RX0 D dA dL) (hw : pp_IX D dA dL ad A H0 cn qq mq fq sn al ow tb us sc bg ce ge H locs)  (hR : pp_RM R cells slots 1 21) (hsz : ls.size = nL) (hrest : (rest.map fun v => v.category).sum ≤ 8) (hdg : decode cc pc = .ok (.invokevirtual 108, 3)) (kk : ∀ (H1 : Heap) (locs1 : List Loc), pp_IX D dA dL ad A H0 cn qq mq fq sn (pp_al7 al 7) 0 tb us sc bg ce ge H1 locs1 → (∀ q : Nat, q < H.size → ¬ pp_AX ad q → H1[q]? = H[q]?) → W p l e R s m args below meth c H1 locs1 cells slots Q (F0 m (pc + 3) ls rest)) : W p l e R s m args below meth c H locs cells slots Q (F0 m pc ls (.ref (ad 0) :: rest)) := pp_cQ_v (n := 0) (F := fun (_ : Unit) => pp_WX dA dL ad cn qq mq fq sn (pp_al7 al 7) 0 tb us sc bg ce ge) hC hw.1 hw.2.1 hw.2.2 (mX_allowAll l D dA dL ad cn qq mq fq sn al ow tb us sc bg ce ge ) (pp_D_all hw.2.1 rfl) (lw_V q126 q128 qs3 q30 q129) (by decide +kernel) rfl rfl rfl hR (va_recv hC.2 hw.1 (ci := 0) (q0 := 0) rfl rfl) hsz hrest hdg rfl (fun _ H1 l1 _ hP hS hk => kk H1 l1 ⟨hP, pp_D_addr hw.2.1 rfl, hS⟩ hk)
end PC_X_allowAll
end
section
theorem pn_m {n : Nat} (h : n ≠ 0) : nI n - 1 = nI (n - 1) := by
  rcases n with _ | k
  · exact absurd rfl h
  · rw [nI_pred]; rfl
theorem pp_fw_le {q g : Nat} (h : q ≤ 16) : pp_fw q g ≤ 512 := by
  have h1 : (16 - q) * (16 - q) ≤ 16 * 16 := Nat.mul_le_mul (by omega) (by omega)
  have h2 : 2 * q * (16 - q) ≤ 32 * 16 := Nat.mul_le_mul (by omega) (by omega)
  have h3 : q * q ≤ 16 * 16 := Nat.mul_le_mul h h
  unfold pp_fw
  split
  · omega
  · split <;> omega
theorem pp_ps_le {g a b : Nat} (ha : a < 3) (hb : b < 3) : pp_ps g a b ≤ 512 := by
  have h1 : (2 - a) * (2 - b) ≤ 2 * 2 := Nat.mul_le_mul (by omega) (by omega)
  have h2 : a * (2 - b) ≤ 2 * 2 := Nat.mul_le_mul (by omega) (by omega)
  have h3 : (2 - a) * b ≤ 2 * 2 := Nat.mul_le_mul (by omega) (by omega)
  have h4 : a * b ≤ 2 * 2 := Nat.mul_le_mul (by omega) (by omega)
  unfold pp_ps
  split
  · omega
  · split <;> omega
theorem pp_fac_le {qq : Nat} {mq fq sn : Nat → Nat} {r : Nat} {a : Nat → Nat} (hq : qq ≤ 16) (hsn : ∀ k, sn k ≤ 5) (hG : pp_G a) : pp_fac qq mq fq sn r a ≤ 2560 := by
  have h1 : pp_own qq mq fq r a ≤ 512 := by
    unfold pp_own
    split
    · exact pp_fw_le hq
    · exact pp_ps_le (hG _) (hG _)
  unfold pp_fac
  have h2 := Nat.mul_le_mul h1 (hsn (3 * r + a r))
  omega
def pp_ea (T i bq lst : Nat) : Prop := (bq = 0 ∧ lst = 100 ∧ ∀ q, q < i → pp_bt T q = 0) ∨ (0 < bq ∧ bq ≤ i ∧ pp_bt T (bq - 1) = 1 ∧ lst ≤ 100)
theorem pp_ea_le {T i bq lst : Nat} (h : pp_ea T i bq lst) : lst ≤ 100 := by
  rcases h with h | h
  · omega
  · exact h.2.2.2
theorem pp_ea_0 (T : Nat) : pp_ea T 0 0 100 := Or.inl ⟨rfl, rfl, fun q h => absurd h (by omega)⟩
theorem pp_ea_skip {T i bq lst : Nat} (h : pp_ea T i bq lst) (hb : pp_bt T i ≠ 1) : pp_ea T (i + 1) bq lst := by
  rcases h with ⟨h1, h2, h3⟩ | ⟨h1, h2, h3⟩
  · refine Or.inl ⟨h1, h2, fun q hq => ?_⟩
    by_cases e : q = i
    · subst e
      have := pp_bt_lt T q
      omega
    · exact h3 q (by omega)
  · exact Or.inr ⟨h1, by omega, h3⟩
theorem pp_ea_keep {T i bq lst n : Nat} (h : pp_ea T i bq lst) (hn : n ≤ 7) (h0 : lst ≤ n) : pp_ea T (i + 1) bq lst := by
  rcases h with ⟨h1, h2, h3⟩ | ⟨h1, h2, h3⟩
  · omega
  · exact Or.inr ⟨h1, by omega, h3⟩
theorem pp_ea_take {T i n : Nat} (hb : pp_bt T i = 1) (hn : n ≤ 7) : pp_ea T (i + 1) (i + 1) n := Or.inr ⟨by omega, Nat.le_refl _, hb, by omega⟩
set_option maxHeartbeats 4000000 in
set_option maxRecDepth 100000 in
theorem mX_factor (l : Launch) (D : va_G) (dA dL : ClassId) (ad : Nat → Nat) (cn qq : Nat) (mq fq sn al : Nat → Nat) (ow tb us : Nat) (sc bg : Nat → Nat) (ce : Nat → Int64) (ge : Nat → Nat) (r : Nat) (hr7 : r < 7) (hq : qq ≤ 16) (hsn : ∀ k, sn k ≤ 5) (hm : mq r ≤ r) (hf : fq r ≤ r) (hpar : mq r ≠ 0 → fq r ≠ 0) (hG : pp_G ge) (hal : al r < 8) (how : ow < 2) : Met l yX0_factor (ws_ yX0_factor cX0_factor 5 (some .long)) ({ frames := 1, cells := 0, slots := 0, locals := 23 } : Room) (pp_Pc D dA dL (pp_WX dA dL ad cn qq mq fq sn al ow tb us sc bg ce ge) [.ref (ad 0), .int (nI r)]) (vp_Sl (fun z0 => z0 = (pp_xf qq mq fq sn al ow r ge))) 0 0 (fun _ => False) := by
  refine pp_ofX (by decide) rfl (Nat.le_of_ble_eq_true rfl) ?_
  intro p e s m below meth c ls hC hr hlocks hw hl
  have hx := hC.1.1
  have hb := hC.1.2.1
  have hl : lv_has ls 5 [(0, .ref (ad 0)), (1, .int (nI r))] := hl
  have hR : pp_RM ({ frames := 1, cells := 0, slots := 0, locals := 23 } : Room) 0 0 1 23 := ⟨Nat.le_of_ble_eq_true rfl, Nat.le_of_ble_eq_true rfl, Nat.le_of_ble_eq_true rfl, Nat.le_of_ble_eq_true rfl⟩
  refine lv_aload_n hx hb dX0_factor_0 rfl (lv_at hl 0 rfl) ?_
  refine xg_ge hC hw dX0_factor_1 ?_
  refine lv_iload_n hx hb dX0_factor_4 rfl (lv_at hl 1 rfl) ?_
  refine xl_ge hC hw (by omega) dX0_factor_5 ?_
  refine lv_istore_n (lv' := [(2, .int (nI (ge r))), (0, .ref (ad 0)), (1, .int (nI r))]) hx hb dX0_factor_6 rfl hl (by decide) rfl (fun ls hl => ?_)
  refine lv_aload_n hx hb dX0_factor_7 rfl (lv_at hl 1 rfl) ?_
  refine xg_al hC hw dX0_factor_8 ?_
  refine lv_iload_n hx hb dX0_factor_11 rfl (lv_at hl 2 rfl) ?_
  refine xl_al hC hw (by omega) dX0_factor_12 ?_
  refine lv_iload_n hx hb dX0_factor_13 rfl (lv_at hl 0 rfl) ?_
  refine nr_shr hx hb (by omega) (by have := hG r; omega) dX0_factor_14 ?_
  refine lv_iconst (v := (nI 1)) hx hb dX0_factor_15 (by decide) ?_
  refine nr_bt hx hb (by omega) dX0_factor_16 ?_
  refine nr_z_ne (tgt := 22) hx hb dX0_factor_17 (by decide) (by have := pp_bt_lt (al r) (ge r); omega) (fun h1 => ?_) (fun h1 => ?_)
  · refine lv_aload_n hx hb dX0_factor_22 rfl (lv_at hl 1 rfl) ?_
    refine xg_mq hC hw dX0_factor_23 ?_
    refine lv_iload_n hx hb dX0_factor_26 rfl (lv_at hl 2 rfl) ?_
    refine xl_mq hC hw (by omega) dX0_factor_27 ?_
    refine nr_m_ge (tgt := 39) hx hb dX0_factor_28 (by decide) (by omega) (fun h2 => ?_) (fun h2 => ?_)
    · refine lv_aload_n hx hb dX0_factor_39 rfl (lv_at hl 1 rfl) ?_
      refine lv_iload_n hx hb dX0_factor_40 rfl (lv_at hl 0 rfl) ?_
      refine lv_aload_n hx hb dX0_factor_41 rfl (lv_at hl 1 rfl) ?_
      refine xg_ge hC hw dX0_factor_42 ?_
      refine lv_aload_n hx hb dX0_factor_45 rfl (lv_at hl 1 rfl) ?_
      refine xg_mq hC hw dX0_factor_46 ?_
      refine lv_iload_n hx hb dX0_factor_49 rfl (lv_at hl 2 rfl) ?_
      refine xl_mq hC hw (by omega) dX0_factor_50 ?_
      refine nr_top (y := (nI (mq r - 1))) (pn_m h2) ?_
      refine xl_ge hC hw (by omega) dX0_factor_51 ?_
      refine lv_aload_n hx hb dX0_factor_52 rfl (lv_at hl 1 rfl) ?_
      refine xg_ge hC hw dX0_factor_53 ?_
      refine lv_aload_n hx hb dX0_factor_56 rfl (lv_at hl 1 rfl) ?_
      refine xg_fq hC hw dX0_factor_57 ?_
      refine lv_iload_n hx hb dX0_factor_60 rfl (lv_at hl 2 rfl) ?_
      refine xl_fq hC hw (by omega) dX0_factor_61 ?_
      refine nr_top (y := (nI (fq r - 1))) (pn_m (hpar h2)) ?_
      refine xl_ge hC hw (by omega) dX0_factor_62 ?_
      refine xc_passed  hC hw (hG _) (hG _) (hG _) (hR.le (by decide) (by decide)) hl.1 (Nat.le_of_ble_eq_true rfl) dX0_factor_63 ?_
      refine lv_istore_n (lv' := [(3, .int (nI (pp_ps (ge r) (ge (mq r - 1)) (ge (fq r - 1))))), (2, .int (nI (ge r))), (0, .ref (ad 0)), (1, .int (nI r))]) hx hb dX0_factor_66 rfl hl (by decide) rfl (fun ls hl => ?_)
      refine lv_iload_n hx hb dX0_factor_67 rfl (lv_at hl 0 rfl) ?_
      refine lv_aload_n hx hb dX0_factor_68 rfl (lv_at hl 2 rfl) ?_
      refine xg_sn hC hw dX0_factor_69 ?_
      refine lv_iload_n hx hb dX0_factor_72 rfl (lv_at hl 3 rfl) ?_
      refine lv_iconst (v := (nI 3)) hx hb dX0_factor_73 (by decide) ?_
      refine nr_mul hx hb dX0_factor_74 ?_
      refine lv_iload_n hx hb dX0_factor_75 rfl (lv_at hl 1 rfl) ?_
      refine nr_add hx hb dX0_factor_76 ?_
      refine nr_top (y := (nI (3 * r + ge r))) (by rw [Nat.mul_comm]) ?_
      refine xl_sn hC hw (by have := hG r; omega) dX0_factor_77 ?_
      refine nr_mul hx hb dX0_factor_78 ?_
      refine nr_top (y := (nI (pp_fac qq mq fq sn r ge))) (by unfold pp_fac pp_own; first | rw [if_pos h2] | rw [if_neg h2]) ?_
      refine lv_istore (lv' := [(4, .int (nI (pp_fac qq mq fq sn r ge))), (3, .int (nI (pp_ps (ge r) (ge (mq r - 1)) (ge (fq r - 1))))), (2, .int (nI (ge r))), (0, .ref (ad 0)), (1, .int (nI r))]) hx hb dX0_factor_79 hl (by decide) rfl (fun ls hl => ?_)
      refine lv_aload_n hx hb dX0_factor_81 rfl (lv_at hl 3 rfl) ?_
      refine xg_ow hC hw dX0_factor_82 ?_
      refine nr_z_eq (tgt := 99) hx hb dX0_factor_85 (by decide) (by omega) (fun h3 => ?_) (fun h3 => ?_)
      · refine lv_iload hx hb dX0_factor_99 (lv_at hl 0 rfl) ?_
        refine nr_i2l hx hb (by have := pp_fac_le (mq := mq) (fq := fq) (r := r) hq hsn hG; omega) dX0_factor_101 ?_
        exact pp_rS_l hx hb hr hlocks dX0_factor_102 (by unfold pp_xf pp_xv; first | rw [if_pos h1] | rw [if_neg h1, if_pos h3] | rw [if_neg h1, if_neg h3, if_pos h4] | rw [if_neg h1, if_neg h3, if_neg h4])
      · refine lv_iload hx hb dX0_factor_88 (lv_at hl 0 rfl) ?_
        refine nr_z_ne (tgt := 97) hx hb dX0_factor_90 (by decide) (by have := pp_fac_le (mq := mq) (fq := fq) (r := r) hq hsn hG; omega) (fun h4 => ?_) (fun h4 => ?_)
        · refine lv_lconst (v := 1) hx hb dX0_factor_97 (by decide) ?_
          exact pp_rS_l hx hb hr hlocks dX0_factor_98 (by unfold pp_xf pp_xv; first | rw [if_pos h1] | rw [if_neg h1, if_pos h3] | rw [if_neg h1, if_neg h3, if_pos h4] | rw [if_neg h1, if_neg h3, if_neg h4])
        · refine lv_lconst (v := 0) hx hb dX0_factor_93 (by decide) ?_
          refine lv_goto (tgt := 98) hx hb dX0_factor_94 (by decide) ?_
          exact pp_rS_l hx hb hr hlocks dX0_factor_98 (by unfold pp_xf pp_xv; first | rw [if_pos h1] | rw [if_neg h1, if_pos h3] | rw [if_neg h1, if_neg h3, if_pos h4] | rw [if_neg h1, if_neg h3, if_neg h4])
    · refine lv_aload_n hx hb dX0_factor_31 rfl (lv_at hl 1 rfl) ?_
      refine lv_iload_n hx hb dX0_factor_32 rfl (lv_at hl 0 rfl) ?_
      refine xc_founderWeight  hC hw hq (hG _) (hR.le (by decide) (by decide)) hl.1 (Nat.le_of_ble_eq_true rfl) dX0_factor_33 ?_
      refine lv_goto (tgt := 66) hx hb dX0_factor_36 (by decide) ?_
      refine lv_istore_n (lv' := [(3, .int (nI (pp_fw qq (ge r)))), (2, .int (nI (ge r))), (0, .ref (ad 0)), (1, .int (nI r))]) hx hb dX0_factor_66 rfl hl (by decide) rfl (fun ls hl => ?_)
      refine lv_iload_n hx hb dX0_factor_67 rfl (lv_at hl 0 rfl) ?_
      refine lv_aload_n hx hb dX0_factor_68 rfl (lv_at hl 2 rfl) ?_
      refine xg_sn hC hw dX0_factor_69 ?_
      refine lv_iload_n hx hb dX0_factor_72 rfl (lv_at hl 3 rfl) ?_
      refine lv_iconst (v := (nI 3)) hx hb dX0_factor_73 (by decide) ?_
      refine nr_mul hx hb dX0_factor_74 ?_
      refine lv_iload_n hx hb dX0_factor_75 rfl (lv_at hl 1 rfl) ?_
      refine nr_add hx hb dX0_factor_76 ?_
      refine nr_top (y := (nI (3 * r + ge r))) (by rw [Nat.mul_comm]) ?_
      refine xl_sn hC hw (by have := hG r; omega) dX0_factor_77 ?_
      refine nr_mul hx hb dX0_factor_78 ?_
      refine nr_top (y := (nI (pp_fac qq mq fq sn r ge))) (by unfold pp_fac pp_own; first | rw [if_pos h2] | rw [if_neg h2]) ?_
      refine lv_istore (lv' := [(4, .int (nI (pp_fac qq mq fq sn r ge))), (3, .int (nI (pp_fw qq (ge r)))), (2, .int (nI (ge r))), (0, .ref (ad 0)), (1, .int (nI r))]) hx hb dX0_factor_79 hl (by decide) rfl (fun ls hl => ?_)
      refine lv_aload_n hx hb dX0_factor_81 rfl (lv_at hl 3 rfl) ?_
      refine xg_ow hC hw dX0_factor_82 ?_
      refine nr_z_eq (tgt := 99) hx hb dX0_factor_85 (by decide) (by omega) (fun h3 => ?_) (fun h3 => ?_)
      · refine lv_iload hx hb dX0_factor_99 (lv_at hl 0 rfl) ?_
        refine nr_i2l hx hb (by have := pp_fac_le (mq := mq) (fq := fq) (r := r) hq hsn hG; omega) dX0_factor_101 ?_
        exact pp_rS_l hx hb hr hlocks dX0_factor_102 (by unfold pp_xf pp_xv; first | rw [if_pos h1] | rw [if_neg h1, if_pos h3] | rw [if_neg h1, if_neg h3, if_pos h4] | rw [if_neg h1, if_neg h3, if_neg h4])
      · refine lv_iload hx hb dX0_factor_88 (lv_at hl 0 rfl) ?_
        refine nr_z_ne (tgt := 97) hx hb dX0_factor_90 (by decide) (by have := pp_fac_le (mq := mq) (fq := fq) (r := r) hq hsn hG; omega) (fun h4 => ?_) (fun h4 => ?_)
        · refine lv_lconst (v := 1) hx hb dX0_factor_97 (by decide) ?_
          exact pp_rS_l hx hb hr hlocks dX0_factor_98 (by unfold pp_xf pp_xv; first | rw [if_pos h1] | rw [if_neg h1, if_pos h3] | rw [if_neg h1, if_neg h3, if_pos h4] | rw [if_neg h1, if_neg h3, if_neg h4])
        · refine lv_lconst (v := 0) hx hb dX0_factor_93 (by decide) ?_
          refine lv_goto (tgt := 98) hx hb dX0_factor_94 (by decide) ?_
          exact pp_rS_l hx hb hr hlocks dX0_factor_98 (by unfold pp_xf pp_xv; first | rw [if_pos h1] | rw [if_neg h1, if_pos h3] | rw [if_neg h1, if_neg h3, if_pos h4] | rw [if_neg h1, if_neg h3, if_neg h4])
  · refine lv_lconst (v := 0) hx hb dX0_factor_20 (by decide) ?_
    exact pp_rS_l hx hb hr hlocks dX0_factor_21 (by unfold pp_xf pp_xv; first | rw [if_pos h1] | rw [if_neg h1, if_pos h3] | rw [if_neg h1, if_neg h3, if_pos h4] | rw [if_neg h1, if_neg h3, if_neg h4])
section PC_X_factor
variable {p : Program} {l : Launch} {e : Env} {R : Room} {s : State} {m : MethodId} {args : Array Value} {below : List Frame} {meth : Method} {c : Code} {H : Heap} {locs : List Loc} {cells slots : Nat} {Q : State → Prop}
variable {cc : ByteArray} {pc nL : Nat} {ls : Array Slot} {rest : List Value}
variable {D : va_G} {dA dL : ClassId} {ad : Nat → Nat} {A : Nat → Prop} {H0 : Heap} {cn qq : Nat} {mq fq sn al : Nat → Nat} {ow tb us : Nat} {sc bg : Nat → Nat} {ce : Nat → Int64} {ge : Nat → Nat}
set_option maxRecDepth 100000 in
theorem xc_factor (hC : pp_CX p m c cc nL s args RX0 D dA dL) (hw : pp_IX D dA dL ad A H0 cn qq mq fq sn al ow tb us sc bg ce ge H locs) {r : Nat} (hr7 : r < 7) (hq : qq ≤ 16) (hsn : ∀ k, sn k ≤ 5) (hm : mq r ≤ r) (hf : fq r ≤ r) (hpar : mq r ≠ 0 → fq r ≠ 0) (hG : pp_G ge) (hal : al r < 8) (how : ow < 2) (hR : pp_RM R cells slots 2 47) (hsz : ls.size = nL) (hrest : (rest.map fun v => v.category).sum ≤ 8) (hdg : decode cc pc = .ok (.invokevirtual 84, 3)) (kk : W p l e R s m args below meth c H locs cells slots Q (F0 m (pc + 3) ls (.long (pp_xf qq mq fq sn al ow r ge) :: rest))) : W p l e R s m args below meth c H locs cells slots Q (F0 m pc ls (.int (nI r) :: .ref (ad 0) :: rest)) := pp_cS_l (n := 1) hC hw.1 hw.2.1 (mX_factor l D dA dL ad cn qq mq fq sn al ow tb us sc bg ce ge r hr7 hq hsn hm hf hpar hG hal how) (lw_V q154 q156 qs10 q30 q157) (by decide +kernel) rfl rfl rfl hR (va_recv hC.2 hw.1 (ci := 0) (q0 := 0) rfl rfl) hsz hrest hdg rfl (fun r h => by rw [h]; exact kk)
end PC_X_factor
set_option maxHeartbeats 4000000 in
set_option maxRecDepth 100000 in
theorem mX_openTable (l : Launch) (D : va_G) (dA dL : ClassId) (ad : Nat → Nat) (cn qq : Nat) (mq fq sn al : Nat → Nat) (ow tb us : Nat) (sc bg : Nat → Nat) (ce : Nat → Int64) (ge : Nat → Nat) (S : Nat) (hS : S < 128) (htb : tb < 16) (hus : us ≤ 1320) : Met l yX0_openTable (ws_ yX0_openTable cX0_openTable 5 (some .int)) ({ frames := 1, cells := 0, slots := 0, locals := 23 } : Room) (pp_Pc D dA dL (pp_WX dA dL ad cn qq mq fq sn al ow tb us sc bg ce ge) [.ref (ad 0), .int (nI S)]) (va_Qi (fun z0 (_ : Unit) => z0 = (nI tb)) (fun u t => va_P D vwCl ((fun (_ : Unit) => pp_WX dA dL ad cn qq mq fq sn al ow (tb + 1) (us + 3 ^ pp_sz S 7) (va_up sc tb S) (va_up bg tb us) ce ge) u) t.heap) (pp_AX ad)) 0 0 (pp_AX ad) := by
  refine pp_ofX (by decide) rfl (Nat.le_of_ble_eq_true rfl) ?_
  intro p e s m below meth c ls hC hr hlocks hw hl
  have hx := hC.1.1
  have hb := hC.1.2.1
  have hl : lv_has ls 5 [(0, .ref (ad 0)), (1, .int (nI S))] := hl
  have hR : pp_RM ({ frames := 1, cells := 0, slots := 0, locals := 23 } : Room) 0 0 1 23 := ⟨Nat.le_of_ble_eq_true rfl, Nat.le_of_ble_eq_true rfl, Nat.le_of_ble_eq_true rfl, Nat.le_of_ble_eq_true rfl⟩
  refine lv_aload_n hx hb dX0_openTable_0 rfl (lv_at hl 0 rfl) ?_
  refine xg_tb hC hw dX0_openTable_1 ?_
  refine lv_istore_n (lv' := [(2, .int (nI tb)), (0, .ref (ad 0)), (1, .int (nI S))]) hx hb dX0_openTable_4 rfl hl (by decide) rfl (fun ls hl => ?_)
  refine lv_aload_n hx hb dX0_openTable_5 rfl (lv_at hl 1 rfl) ?_
  refine lv_dup hx hb dX0_openTable_6 rfl ?_
  refine xg_tb hC hw dX0_openTable_7 ?_
  refine lv_iconst (v := (nI 1)) hx hb dX0_openTable_10 (by decide) ?_
  refine nr_add hx hb dX0_openTable_11 ?_
  refine xp_tb hC hw dX0_openTable_12 (fun H locs hw => ?_)
  refine lv_aload_n hx hb dX0_openTable_15 rfl (lv_at hl 1 rfl) ?_
  refine xg_sc hC hw dX0_openTable_16 ?_
  refine lv_iload_n hx hb dX0_openTable_19 rfl (lv_at hl 0 rfl) ?_
  refine lv_iload_n hx hb dX0_openTable_20 rfl (lv_at hl 2 rfl) ?_
  refine xs_sc hC hw (by omega) dX0_openTable_21 (fun H locs hw => ?_)
  refine lv_aload_n hx hb dX0_openTable_22 rfl (lv_at hl 1 rfl) ?_
  refine xg_bg hC hw dX0_openTable_23 ?_
  refine lv_iload_n hx hb dX0_openTable_26 rfl (lv_at hl 0 rfl) ?_
  refine lv_aload_n hx hb dX0_openTable_27 rfl (lv_at hl 1 rfl) ?_
  refine xg_us hC hw dX0_openTable_28 ?_
  refine xs_bg hC hw (by omega) dX0_openTable_31 (fun H locs hw => ?_)
  refine lv_aload_n hx hb dX0_openTable_32 rfl (lv_at hl 1 rfl) ?_
  refine lv_iload_n hx hb dX0_openTable_33 rfl (lv_at hl 2 rfl) ?_
  refine xc_sizeOf  hC hw hS (hR.le (by decide) (by decide)) hl.1 (Nat.le_of_ble_eq_true rfl) dX0_openTable_34 ?_
  refine lv_istore_n (lv' := [(3, .int (nI (pp_sz S 7))), (2, .int (nI tb)), (0, .ref (ad 0)), (1, .int (nI S))]) hx hb dX0_openTable_37 rfl hl (by decide) rfl (fun ls hl => ?_)
  refine lv_aload_n hx hb dX0_openTable_38 rfl (lv_at hl 2 rfl) ?_
  refine lv_iload_n hx hb dX0_openTable_39 rfl (lv_at hl 0 rfl) ?_
  refine xc_power  hC hw (pp_sz_le S 7) (hR.le (by decide) (by decide)) hl.1 (Nat.le_of_ble_eq_true rfl) dX0_openTable_40 ?_
  refine lv_istore (lv' := [(4, .int (nI (3 ^ pp_sz S 7))), (3, .int (nI (pp_sz S 7))), (2, .int (nI tb)), (0, .ref (ad 0)), (1, .int (nI S))]) hx hb dX0_openTable_43 hl (by decide) rfl (fun ls hl => ?_)
  refine lv_aload_n hx hb dX0_openTable_45 rfl (lv_at hl 3 rfl) ?_
  refine lv_aload_n hx hb dX0_openTable_46 rfl (lv_at hl 3 rfl) ?_
  refine xg_us hC hw dX0_openTable_47 ?_
  refine lv_iload hx hb dX0_openTable_50 (lv_at hl 0 rfl) ?_
  refine nr_add hx hb dX0_openTable_52 ?_
  refine xp_us hC hw dX0_openTable_53 (fun H locs hw => ?_)
  refine lv_iload_n hx hb dX0_openTable_56 rfl (lv_at hl 2 rfl) ?_
  exact pp_rQ_i (F := fun (_ : Unit) => pp_WX dA dL ad cn qq mq fq sn al ow (tb + 1) (us + 3 ^ pp_sz S 7) (va_up sc tb S) (va_up bg tb us) ce ge) hx hb hr hlocks dX0_openTable_57 () rfl hw.1 hw.2.2
section PC_X_openTable
variable {p : Program} {l : Launch} {e : Env} {R : Room} {s : State} {m : MethodId} {args : Array Value} {below : List Frame} {meth : Method} {c : Code} {H : Heap} {locs : List Loc} {cells slots : Nat} {Q : State → Prop}
variable {cc : ByteArray} {pc nL : Nat} {ls : Array Slot} {rest : List Value}
variable {D : va_G} {dA dL : ClassId} {ad : Nat → Nat} {A : Nat → Prop} {H0 : Heap} {cn qq : Nat} {mq fq sn al : Nat → Nat} {ow tb us : Nat} {sc bg : Nat → Nat} {ce : Nat → Int64} {ge : Nat → Nat}
set_option maxRecDepth 100000 in
theorem xc_openTable (hC : pp_CX p m c cc nL s args RX0 D dA dL) (hw : pp_IX D dA dL ad A H0 cn qq mq fq sn al ow tb us sc bg ce ge H locs) {S : Nat} (hS : S < 128) (htb : tb < 16) (hus : us ≤ 1320) (hR : pp_RM R cells slots 2 47) (hsz : ls.size = nL) (hrest : (rest.map fun v => v.category).sum ≤ 8) (hdg : decode cc pc = .ok (.invokevirtual 77, 3)) (kk : ∀ (H1 : Heap) (locs1 : List Loc), pp_IX D dA dL ad A H0 cn qq mq fq sn al ow (tb + 1) (us + 3 ^ pp_sz S 7) (va_up sc tb S) (va_up bg tb us) ce ge H1 locs1 → (∀ q : Nat, q < H.size → ¬ pp_AX ad q → H1[q]? = H[q]?) → W p l e R s m args below meth c H1 locs1 cells slots Q (F0 m (pc + 3) ls (.int (nI tb) :: rest))) : W p l e R s m args below meth c H locs cells slots Q (F0 m pc ls (.int (nI S) :: .ref (ad 0) :: rest)) := pp_cQ_i (n := 1) (F := fun (_ : Unit) => pp_WX dA dL ad cn qq mq fq sn al ow (tb + 1) (us + 3 ^ pp_sz S 7) (va_up sc tb S) (va_up bg tb us) ce ge) hC hw.1 hw.2.1 hw.2.2 (mX_openTable l D dA dL ad cn qq mq fq sn al ow tb us sc bg ce ge S hS htb hus) (pp_D_all hw.2.1 rfl) (lw_V q138 q140 qs6 q30 q141) (by decide +kernel) rfl rfl rfl hR (va_recv hC.2 hw.1 (ci := 0) (q0 := 0) rfl rfl) hsz hrest hdg rfl (fun r _ H1 l1 h hP hS hk => by rw [h]; exact kk H1 l1 ⟨hP, pp_D_addr hw.2.1 rfl, hS⟩ hk)
end PC_X_openTable
end
section
section PL_product
variable {p : Program} {l : Launch} {e : Env} {R : Room} {s : State} {m : MethodId} {args : Array Value} {below : List Frame} {meth : Method} {c : Code} {H : Heap} {locs : List Loc} {cells slots : Nat} {Q : State → Prop}
variable {cc : ByteArray} {pc nL : Nat} {ls : Array Slot} {rest : List Value}
variable {D : va_G} {dA dL : ClassId} {ad : Nat → Nat} {A : Nat → Prop} {H0 : Heap} {cn qq : Nat} {mq fq sn al : Nat → Nat} {ow tb us : Nat} {sc bg : Nat → Nat} {ce : Nat → Int64} {ge : Nat → Nat}
set_option maxHeartbeats 4000000 in
set_option maxRecDepth 100000 in
theorem lX_product (hC : pp_CX p m c cX0_product 7 s args RX0 D dA dL) (hw : pp_IX D dA dL ad A H0 cn qq mq fq sn al ow tb us sc bg ce ge H locs) (hR : pp_RM R cells slots 1 23) {r en : Nat} (hp : r < 7) (hen : en ≤ 16) (hs : ∀ t, t < en → sc t < 128 ∧ bg t + 3 ^ pp_sz (sc t) 7 ≤ 1320) (hG : pp_G ge) : ∀ (n : Nat) (i : Nat) (ls : Array Slot), en - i = n → i ≤ en → lv_has ls 7 [(0, .ref (ad 0)), (1, .int (nI r)), (2, .int (nI en)), (3, .long (pp_pp sc bg ce r ge i)), (5, .int (nI i))] → (∀ (ls : Array Slot), lv_has ls 7 [(0, .ref (ad 0)), (1, .int (nI r)), (2, .int (nI en)), (3, .long (pp_pp sc bg ce r ge en)), (5, .int (nI en))] → W p l e R s m args below meth c H locs cells slots Q (F0 m 63 ls [])) → W p l e R s m args below meth c H locs cells slots Q (F0 m 5 ls []) := by
  have hx := hC.1.1
  have hb := hC.1.2.1
  intro n
  induction n using Nat.strongRecOn with
  | ind n ih =>
    intro i ls hn g1 hl kk1
    refine lv_iload hx hb dX0_product_5 (lv_at hl 4 rfl) ?_
    refine lv_iload_n hx hb dX0_product_7 rfl (lv_at hl 2 rfl) ?_
    refine nr_ge (tgt := 63) hx hb dX0_product_8 (by decide) (by omega) (by omega) (fun h1 => ?_) (fun h1 => ?_)
    · obtain rfl : i = en := by omega
      exact kk1 ls hl
    · refine lv_aload_n hx hb dX0_product_11 rfl (lv_at hl 0 rfl) ?_
      refine xg_sc hC hw dX0_product_12 ?_
      refine lv_iload hx hb dX0_product_15 (lv_at hl 4 rfl) ?_
      refine xl_sc hC hw (by omega) dX0_product_17 ?_
      refine lv_iload_n hx hb dX0_product_18 rfl (lv_at hl 1 rfl) ?_
      refine nr_shr hx hb (by have := (hs i h1).1; omega) (by omega) dX0_product_19 ?_
      refine lv_iconst (v := (nI 1)) hx hb dX0_product_20 (by decide) ?_
      refine nr_bt hx hb (by have := (hs i h1).1; omega) dX0_product_21 ?_
      refine lv_iconst (v := (nI 1)) hx hb dX0_product_22 (by decide) ?_
      refine nr_ne (tgt := 57) hx hb dX0_product_23 (by decide) (by have := pp_bt_lt (sc i) r; omega) (by omega) (fun h2 => ?_) (fun h2 => ?_)
      · rw [show pp_pp sc bg ce r ge i = pp_pp sc bg ce r ge (i + 1) from by rw [pp_pp, if_neg h2]] at hl
        refine lv_iinc (v := (nI (i + 1))) (lv' := [(5, .int (nI (i + 1))), (0, .ref (ad 0)), (1, .int (nI r)), (2, .int (nI en)), (3, .long (pp_pp sc bg ce r ge (i + 1)))]) hx hb dX0_product_57 hl (k := 4) rfl (pn_inc _) (by decide) rfl (fun ls hl => ?_)
        refine lv_goto (tgt := 5) hx hb dX0_product_60 (by decide) ?_
        exact ih (en - (i + 1)) (by omega) (i + 1) ls rfl (by omega) (lv_sub hl [1, 2, 3, 4, 0] rfl) kk1
      · refine lv_aload_n hx hb dX0_product_26 rfl (lv_at hl 0 rfl) ?_
        refine lv_aload_n hx hb dX0_product_27 rfl (lv_at hl 0 rfl) ?_
        refine xg_sc hC hw dX0_product_28 ?_
        refine lv_iload hx hb dX0_product_31 (lv_at hl 4 rfl) ?_
        refine xl_sc hC hw (by omega) dX0_product_33 ?_
        refine xc_placeIn  hC hw (hs i h1).1 (hR.le (by decide) (by decide)) hl.1 (Nat.le_of_ble_eq_true rfl) dX0_product_34 ?_
        refine lv_istore (lv' := [(6, .int (nI (pp_pl (sc i) ge))), (0, .ref (ad 0)), (1, .int (nI r)), (2, .int (nI en)), (3, .long (pp_pp sc bg ce r ge i)), (5, .int (nI i))]) hx hb dX0_product_37 hl (by decide) rfl (fun ls hl => ?_)
        refine lv_lload_n hx hb dX0_product_39 rfl (lv_at hl 4 rfl) ?_
        refine lv_aload_n hx hb dX0_product_40 rfl (lv_at hl 1 rfl) ?_
        refine xg_ce hC hw dX0_product_41 ?_
        refine lv_aload_n hx hb dX0_product_44 rfl (lv_at hl 1 rfl) ?_
        refine xg_bg hC hw dX0_product_45 ?_
        refine lv_iload hx hb dX0_product_48 (lv_at hl 5 rfl) ?_
        refine xl_bg hC hw (by omega) dX0_product_50 ?_
        refine lv_iload hx hb dX0_product_51 (lv_at hl 0 rfl) ?_
        refine nr_add hx hb dX0_product_53 ?_
        refine xl_ce hC hw (by have := (hs i h1).2; have := pp_pl_lt (S := sc i) hG; omega) dX0_product_54 ?_
        refine lv_lmul hx hb dX0_product_55 ?_
        refine nr_topl (y := (pp_pp sc bg ce r ge (i + 1))) (by rw [pp_pp, if_pos h2]) ?_
        refine lv_lstore_n (lv' := [(3, .long (pp_pp sc bg ce r ge (i + 1))), (6, .int (nI (pp_pl (sc i) ge))), (0, .ref (ad 0)), (1, .int (nI r)), (2, .int (nI en)), (5, .int (nI i))]) hx hb dX0_product_56 rfl hl (by decide) rfl (fun ls hl => ?_)
        refine lv_iinc (v := (nI (i + 1))) (lv' := [(5, .int (nI (i + 1))), (3, .long (pp_pp sc bg ce r ge (i + 1))), (6, .int (nI (pp_pl (sc i) ge))), (0, .ref (ad 0)), (1, .int (nI r)), (2, .int (nI en))]) hx hb dX0_product_57 hl (k := 5) rfl (pn_inc _) (by decide) rfl (fun ls hl => ?_)
        refine lv_goto (tgt := 5) hx hb dX0_product_60 (by decide) ?_
        exact ih (en - (i + 1)) (by omega) (i + 1) ls rfl (by omega) (lv_sub hl [3, 4, 5, 1, 0] rfl) kk1
end PL_product
set_option maxHeartbeats 4000000 in
set_option maxRecDepth 100000 in
theorem mX_product (l : Launch) (D : va_G) (dA dL : ClassId) (ad : Nat → Nat) (cn qq : Nat) (mq fq sn al : Nat → Nat) (ow tb us : Nat) (sc bg : Nat → Nat) (ce : Nat → Int64) (ge : Nat → Nat) (r : Nat) (en : Nat) (hp : r < 7) (hen : en ≤ 16) (hs : ∀ t, t < en → sc t < 128 ∧ bg t + 3 ^ pp_sz (sc t) 7 ≤ 1320) (hG : pp_G ge) : Met l yX0_product (ws_ yX0_product cX0_product 7 (some .long)) ({ frames := 1, cells := 0, slots := 0, locals := 23 } : Room) (pp_Pc D dA dL (pp_WX dA dL ad cn qq mq fq sn al ow tb us sc bg ce ge) [.ref (ad 0), .int (nI r), .int (nI en)]) (vp_Sl (fun z0 => z0 = (pp_pp sc bg ce r ge en))) 0 0 (fun _ => False) := by
  refine pp_ofX (by decide) rfl (Nat.le_of_ble_eq_true rfl) ?_
  intro p e s m below meth c ls hC hr hlocks hw hl
  have hx := hC.1.1
  have hb := hC.1.2.1
  have hl : lv_has ls 7 [(0, .ref (ad 0)), (1, .int (nI r)), (2, .int (nI en))] := hl
  have hR : pp_RM ({ frames := 1, cells := 0, slots := 0, locals := 23 } : Room) 0 0 1 23 := ⟨Nat.le_of_ble_eq_true rfl, Nat.le_of_ble_eq_true rfl, Nat.le_of_ble_eq_true rfl, Nat.le_of_ble_eq_true rfl⟩
  refine lv_lconst (v := 1) hx hb dX0_product_0 (by decide) ?_
  refine lv_lstore_n (lv' := [(3, .long 1), (0, .ref (ad 0)), (1, .int (nI r)), (2, .int (nI en))]) hx hb dX0_product_1 rfl hl (by decide) rfl (fun ls hl => ?_)
  refine lv_iconst (v := (nI 0)) hx hb dX0_product_2 (by decide) ?_
  refine lv_istore (lv' := [(5, .int (nI 0)), (3, .long 1), (0, .ref (ad 0)), (1, .int (nI r)), (2, .int (nI en))]) hx hb dX0_product_3 hl (by decide) rfl (fun ls hl => ?_)
  refine lX_product hC hw hR hp hen hs hG en 0 ls rfl (Nat.zero_le en) (lv_sub hl [2, 3, 4, 1, 0] rfl) (fun ls hl => ?_)
  refine lv_lload_n hx hb dX0_product_63 rfl (lv_at hl 3 rfl) ?_
  exact pp_rS_l hx hb hr hlocks dX0_product_64 rfl
section PC_X_product
variable {p : Program} {l : Launch} {e : Env} {R : Room} {s : State} {m : MethodId} {args : Array Value} {below : List Frame} {meth : Method} {c : Code} {H : Heap} {locs : List Loc} {cells slots : Nat} {Q : State → Prop}
variable {cc : ByteArray} {pc nL : Nat} {ls : Array Slot} {rest : List Value}
variable {D : va_G} {dA dL : ClassId} {ad : Nat → Nat} {A : Nat → Prop} {H0 : Heap} {cn qq : Nat} {mq fq sn al : Nat → Nat} {ow tb us : Nat} {sc bg : Nat → Nat} {ce : Nat → Int64} {ge : Nat → Nat}
set_option maxRecDepth 100000 in
theorem xc_product (hC : pp_CX p m c cc nL s args RX0 D dA dL) (hw : pp_IX D dA dL ad A H0 cn qq mq fq sn al ow tb us sc bg ce ge H locs) {r : Nat} {en : Nat} (hp : r < 7) (hen : en ≤ 16) (hs : ∀ t, t < en → sc t < 128 ∧ bg t + 3 ^ pp_sz (sc t) 7 ≤ 1320) (hG : pp_G ge) (hR : pp_RM R cells slots 2 49) (hsz : ls.size = nL) (hrest : (rest.map fun v => v.category).sum ≤ 8) (hdg : decode cc pc = .ok (.invokevirtual 94, 3)) (kk : W p l e R s m args below meth c H locs cells slots Q (F0 m (pc + 3) ls (.long (pp_pp sc bg ce r ge en) :: rest))) : W p l e R s m args below meth c H locs cells slots Q (F0 m pc ls (.int (nI en) :: .int (nI r) :: .ref (ad 0) :: rest)) := pp_cS_l (n := 2) hC hw.1 hw.2.1 (mX_product l D dA dL ad cn qq mq fq sn al ow tb us sc bg ce ge r en hp hen hs hG) (lw_V q178 q180 qs16 q30 q181) (by decide +kernel) rfl rfl rfl hR (va_recv hC.2 hw.1 (ci := 0) (q0 := 0) rfl rfl) hsz hrest hdg rfl (fun r h => by rw [h]; exact kk)
end PC_X_product
section PL_easiest
variable {p : Program} {l : Launch} {e : Env} {R : Room} {s : State} {m : MethodId} {args : Array Value} {below : List Frame} {meth : Method} {c : Code} {H : Heap} {locs : List Loc} {cells slots : Nat} {Q : State → Prop}
variable {cc : ByteArray} {pc nL : Nat} {ls : Array Slot} {rest : List Value}
variable {D : va_G} {dA dL : ClassId} {ad : Nat → Nat} {A : Nat → Prop} {H0 : Heap} {cn qq : Nat} {mq fq sn al : Nat → Nat} {ow tb us : Nat} {sc bg : Nat → Nat} {ce : Nat → Int64} {ge : Nat → Nat}
set_option maxHeartbeats 4000000 in
set_option maxRecDepth 100000 in
theorem lX_easiest (hC : pp_CX p m c cX0_easiest 7 s args RX0 D dA dL) (hw : pp_IX D dA dL ad A H0 cn qq mq fq sn al ow tb us sc bg ce ge H locs) (hR : pp_RM R cells slots 1 23) {Lf : Nat} (hL : Lf < 128) (hcn : cn ≤ 7) (htb : tb ≤ 16) (hs : ∀ t, t < tb → sc t < 128) : ∀ (n : Nat) (i bq lst : Nat) (ls : Array Slot), cn - i = n → i ≤ cn → pp_ea Lf i bq lst → lv_has ls 7 [(0, .ref (ad 0)), (1, .int (nI Lf)), (2, .int (nI bq - 1)), (3, .int (nI lst)), (4, .int (nI i))] → (∀ (bq lst : Nat) (_ : pp_ea Lf cn bq lst) (ls : Array Slot), lv_has ls 7 [(0, .ref (ad 0)), (1, .int (nI Lf)), (2, .int (nI bq - 1)), (3, .int (nI lst)), (4, .int (nI cn))] → W p l e R s m args below meth c H locs cells slots Q (F0 m 61 ls [])) → W p l e R s m args below meth c H locs cells slots Q (F0 m 8 ls []) := by
  have hx := hC.1.1
  have hb := hC.1.2.1
  intro n
  induction n using Nat.strongRecOn with
  | ind n ih =>
    intro i bq lst ls hn g1 g2 hl kk1
    refine lv_iload hx hb dX0_easiest_8 (lv_at hl 4 rfl) ?_
    refine lv_aload_n hx hb dX0_easiest_10 rfl (lv_at hl 0 rfl) ?_
    refine xg_cn hC hw dX0_easiest_11 ?_
    refine nr_ge (tgt := 61) hx hb dX0_easiest_14 (by decide) (by omega) (by omega) (fun h1 => ?_) (fun h1 => ?_)
    · obtain rfl : i = cn := by omega
      exact kk1 bq lst g2 ls hl
    · refine lv_iload_n hx hb dX0_easiest_17 rfl (lv_at hl 1 rfl) ?_
      refine lv_iload hx hb dX0_easiest_18 (lv_at hl 4 rfl) ?_
      refine nr_shr hx hb (by omega) (by omega) dX0_easiest_20 ?_
      refine lv_iconst (v := (nI 1)) hx hb dX0_easiest_21 (by decide) ?_
      refine nr_bt hx hb (by omega) dX0_easiest_22 ?_
      refine lv_iconst (v := (nI 1)) hx hb dX0_easiest_23 (by decide) ?_
      refine nr_ne (tgt := 55) hx hb dX0_easiest_24 (by decide) (by have := pp_bt_lt Lf i; omega) (by omega) (fun h2 => ?_) (fun h2 => ?_)
      · refine lv_iinc (v := (nI (i + 1))) (lv' := [(4, .int (nI (i + 1))), (0, .ref (ad 0)), (1, .int (nI Lf)), (2, .int (nI bq - 1)), (3, .int (nI lst))]) hx hb dX0_easiest_55 hl (k := 4) rfl (pn_inc _) (by decide) rfl (fun ls hl => ?_)
        refine lv_goto (tgt := 8) hx hb dX0_easiest_58 (by decide) ?_
        exact ih (cn - (i + 1)) (by omega) (i + 1) bq lst ls rfl (by omega) (pp_ea_skip g2 h2) (lv_sub hl [1, 2, 3, 4, 0] rfl) kk1
      · refine lv_aload_n hx hb dX0_easiest_27 rfl (lv_at hl 0 rfl) ?_
        refine lv_iload hx hb dX0_easiest_28 (lv_at hl 4 rfl) ?_
        refine xc_around  hC hw (by omega) htb hs (hR.le (by decide) (by decide)) hl.1 (Nat.le_of_ble_eq_true rfl) dX0_easiest_30 ?_
        refine lv_istore (lv' := [(5, .int (nI (pp_ar sc i tb))), (0, .ref (ad 0)), (1, .int (nI Lf)), (2, .int (nI bq - 1)), (3, .int (nI lst)), (4, .int (nI i))]) hx hb dX0_easiest_33 hl (by decide) rfl (fun ls hl => ?_)
        refine lv_aload_n hx hb dX0_easiest_35 rfl (lv_at hl 1 rfl) ?_
        refine lv_iload hx hb dX0_easiest_36 (lv_at hl 0 rfl) ?_
        refine xc_sizeOf  hC hw (pp_ar_lt i hs) (hR.le (by decide) (by decide)) hl.1 (Nat.le_of_ble_eq_true rfl) dX0_easiest_38 ?_
        refine lv_istore (lv' := [(6, .int (nI (pp_sz (pp_ar sc i tb) 7))), (5, .int (nI (pp_ar sc i tb))), (0, .ref (ad 0)), (1, .int (nI Lf)), (2, .int (nI bq - 1)), (3, .int (nI lst)), (4, .int (nI i))]) hx hb dX0_easiest_41 hl (by decide) rfl (fun ls hl => ?_)
        refine lv_iload hx hb dX0_easiest_43 (lv_at hl 0 rfl) ?_
        refine lv_iload_n hx hb dX0_easiest_45 rfl (lv_at hl 5 rfl) ?_
        refine nr_ge (tgt := 55) hx hb dX0_easiest_46 (by decide) (by have := pp_sz_le (pp_ar sc i tb) 7; omega) (by have := pp_ea_le g2; omega) (fun h3 => ?_) (fun h3 => ?_)
        · refine lv_iinc (v := (nI (i + 1))) (lv' := [(4, .int (nI (i + 1))), (6, .int (nI (pp_sz (pp_ar sc i tb) 7))), (5, .int (nI (pp_ar sc i tb))), (0, .ref (ad 0)), (1, .int (nI Lf)), (2, .int (nI bq - 1)), (3, .int (nI lst))]) hx hb dX0_easiest_55 hl (k := 6) rfl (pn_inc _) (by decide) rfl (fun ls hl => ?_)
          refine lv_goto (tgt := 8) hx hb dX0_easiest_58 (by decide) ?_
          exact ih (cn - (i + 1)) (by omega) (i + 1) bq lst ls rfl (by omega) (pp_ea_keep g2 (pp_sz_le _ 7) h3) (lv_sub hl [3, 4, 5, 6, 0] rfl) kk1
        · refine lv_iload hx hb dX0_easiest_49 (lv_at hl 0 rfl) ?_
          refine lv_istore_n (lv' := [(3, .int (nI (pp_sz (pp_ar sc i tb) 7))), (6, .int (nI (pp_sz (pp_ar sc i tb) 7))), (5, .int (nI (pp_ar sc i tb))), (0, .ref (ad 0)), (1, .int (nI Lf)), (2, .int (nI bq - 1)), (4, .int (nI i))]) hx hb dX0_easiest_51 rfl hl (by decide) rfl (fun ls hl => ?_)
          refine lv_iload hx hb dX0_easiest_52 (lv_at hl 6 rfl) ?_
          refine nr_top (y := (nI (i + 1) - 1)) (pn_pr i) ?_
          refine lv_istore_n (lv' := [(2, .int (nI (i + 1) - 1)), (3, .int (nI (pp_sz (pp_ar sc i tb) 7))), (6, .int (nI (pp_sz (pp_ar sc i tb) 7))), (5, .int (nI (pp_ar sc i tb))), (0, .ref (ad 0)), (1, .int (nI Lf)), (4, .int (nI i))]) hx hb dX0_easiest_54 rfl hl (by decide) rfl (fun ls hl => ?_)
          refine lv_iinc (v := (nI (i + 1))) (lv' := [(4, .int (nI (i + 1))), (2, .int (nI (i + 1) - 1)), (3, .int (nI (pp_sz (pp_ar sc i tb) 7))), (6, .int (nI (pp_sz (pp_ar sc i tb) 7))), (5, .int (nI (pp_ar sc i tb))), (0, .ref (ad 0)), (1, .int (nI Lf))]) hx hb dX0_easiest_55 hl (k := 6) rfl (pn_inc _) (by decide) rfl (fun ls hl => ?_)
          refine lv_goto (tgt := 8) hx hb dX0_easiest_58 (by decide) ?_
          exact ih (cn - (i + 1)) (by omega) (i + 1) (i + 1) (pp_sz (pp_ar sc i tb) 7) ls rfl (by omega) (pp_ea_take h2 (pp_sz_le _ 7)) (lv_sub hl [5, 6, 1, 2, 0] rfl) kk1
end PL_easiest
set_option maxHeartbeats 4000000 in
set_option maxRecDepth 100000 in
theorem mX_easiest (l : Launch) (D : va_G) (dA dL : ClassId) (ad : Nat → Nat) (cn qq : Nat) (mq fq sn al : Nat → Nat) (ow tb us : Nat) (sc bg : Nat → Nat) (ce : Nat → Int64) (ge : Nat → Nat) (Lf : Nat) (hL : Lf < 128) (hcn : cn ≤ 7) (htb : tb ≤ 16) (hs : ∀ t, t < tb → sc t < 128) : Met l yX0_easiest (ws_ yX0_easiest cX0_easiest 7 (some .int)) ({ frames := 1, cells := 0, slots := 0, locals := 23 } : Room) (pp_Pc D dA dL (pp_WX dA dL ad cn qq mq fq sn al ow tb us sc bg ce ge) [.ref (ad 0), .int (nI Lf)]) (vp_Si (fun z0 => ∃ bq lst, z0 = nI bq - 1 ∧ pp_ea Lf cn bq lst)) 0 0 (fun _ => False) := by
  refine pp_ofX (by decide) rfl (Nat.le_of_ble_eq_true rfl) ?_
  intro p e s m below meth c ls hC hr hlocks hw hl
  have hx := hC.1.1
  have hb := hC.1.2.1
  have hl : lv_has ls 7 [(0, .ref (ad 0)), (1, .int (nI Lf))] := hl
  have hR : pp_RM ({ frames := 1, cells := 0, slots := 0, locals := 23 } : Room) 0 0 1 23 := ⟨Nat.le_of_ble_eq_true rfl, Nat.le_of_ble_eq_true rfl, Nat.le_of_ble_eq_true rfl, Nat.le_of_ble_eq_true rfl⟩
  refine lv_iconst (v := (nI 0 - 1)) hx hb dX0_easiest_0 (by decide) ?_
  refine lv_istore_n (lv' := [(2, .int (nI 0 - 1)), (0, .ref (ad 0)), (1, .int (nI Lf))]) hx hb dX0_easiest_1 rfl hl (by decide) rfl (fun ls hl => ?_)
  refine lv_bipush (v := (nI 100)) hx hb dX0_easiest_2 (by decide) ?_
  refine lv_istore_n (lv' := [(3, .int (nI 100)), (2, .int (nI 0 - 1)), (0, .ref (ad 0)), (1, .int (nI Lf))]) hx hb dX0_easiest_4 rfl hl (by decide) rfl (fun ls hl => ?_)
  refine lv_iconst (v := (nI 0)) hx hb dX0_easiest_5 (by decide) ?_
  refine lv_istore (lv' := [(4, .int (nI 0)), (3, .int (nI 100)), (2, .int (nI 0 - 1)), (0, .ref (ad 0)), (1, .int (nI Lf))]) hx hb dX0_easiest_6 hl (by decide) rfl (fun ls hl => ?_)
  refine lX_easiest hC hw hR hL hcn htb hs cn 0 0 100 ls rfl (Nat.zero_le cn) (pp_ea_0 Lf) (lv_sub hl [3, 4, 2, 1, 0] rfl) (fun bq lst hea ls hl => ?_)
  refine lv_iload_n hx hb dX0_easiest_61 rfl (lv_at hl 2 rfl) ?_
  exact pp_rS_i hx hb hr hlocks dX0_easiest_62 (⟨bq, lst, rfl, hea⟩)
section PC_X_easiest
variable {p : Program} {l : Launch} {e : Env} {R : Room} {s : State} {m : MethodId} {args : Array Value} {below : List Frame} {meth : Method} {c : Code} {H : Heap} {locs : List Loc} {cells slots : Nat} {Q : State → Prop}
variable {cc : ByteArray} {pc nL : Nat} {ls : Array Slot} {rest : List Value}
variable {D : va_G} {dA dL : ClassId} {ad : Nat → Nat} {A : Nat → Prop} {H0 : Heap} {cn qq : Nat} {mq fq sn al : Nat → Nat} {ow tb us : Nat} {sc bg : Nat → Nat} {ce : Nat → Int64} {ge : Nat → Nat}
set_option maxRecDepth 100000 in
theorem xc_easiest (hC : pp_CX p m c cc nL s args RX0 D dA dL) (hw : pp_IX D dA dL ad A H0 cn qq mq fq sn al ow tb us sc bg ce ge H locs) {Lf : Nat} (hL : Lf < 128) (hcn : cn ≤ 7) (htb : tb ≤ 16) (hs : ∀ t, t < tb → sc t < 128) (hR : pp_RM R cells slots 2 49) (hsz : ls.size = nL) (hrest : (rest.map fun v => v.category).sum ≤ 8) (hdg : decode cc pc = .ok (.invokevirtual 102, 3)) (kk : ∀ r, (fun z0 => ∃ bq lst, z0 = nI bq - 1 ∧ pp_ea Lf cn bq lst) r → W p l e R s m args below meth c H locs cells slots Q (F0 m (pc + 3) ls (.int r :: rest))) : W p l e R s m args below meth c H locs cells slots Q (F0 m pc ls (.int (nI Lf) :: .ref (ad 0) :: rest)) := pp_cS_i (n := 1) hC hw.1 hw.2.1 (mX_easiest l D dA dL ad cn qq mq fq sn al ow tb us sc bg ce ge Lf hL hcn htb hs) (lw_V q166 q168 qs13 q30 q169) (by decide +kernel) rfl rfl rfl hR (va_recv hC.2 hw.1 (ci := 0) (q0 := 0) rfl rfl) hsz hrest hdg rfl kk
end PC_X_easiest
end
section
/-- the entries of a person's table -/
def pp_YP (qq : Nat) (mq fq sn al : Nat → Nat) (ow r : Nat) : Nat → Int64 := fun k => pp_xf qq mq fq sn al ow r (pp_spr (pp_set mq fq r) k (fun _ => 0) 7)
theorem pp_fill_s (ce : Nat → Int64) (us : Nat) (Y : Nat → Int64) (k : Nat) : vp_updL (pp_fill ce us Y k) (us + k) (Y k) = pp_fill ce us Y (k + 1) := rfl
theorem pp_spr_eq {S k q : Nat} (g g' : Nat → Nat) (hq : q < 7) (hb : pp_bt S q = 1) : pp_spr S k g 7 q = pp_spr S k g' 7 q := by
  unfold pp_spr
  rw [if_pos ⟨hq, hb⟩, if_pos ⟨hq, hb⟩]
theorem pp_YP_eq {qq : Nat} {mq fq sn al : Nat → Nat} {ow r k : Nat} (g : Nat → Nat) (h : pp_set mq fq r < 128) : pp_xf qq mq fq sn al ow r (pp_spr (pp_set mq fq r) k g 7) = pp_YP qq mq fq sn al ow r k :=
  pp_xf_congr (fun q hq => pp_spr_eq _ _ (pp_bt_lt7 h hq) hq)
section PL_personTable
variable {p : Program} {l : Launch} {e : Env} {R : Room} {s : State} {m : MethodId} {args : Array Value} {below : List Frame} {meth : Method} {c : Code} {H : Heap} {locs : List Loc} {cells slots : Nat} {Q : State → Prop}
variable {cc : ByteArray} {pc nL : Nat} {ls : Array Slot} {rest : List Value}
variable {D : va_G} {dA dL : ClassId} {ad : Nat → Nat} {A : Nat → Prop} {H0 : Heap} {cn qq : Nat} {mq fq sn al : Nat → Nat} {ow tb us : Nat} {sc bg : Nat → Nat} {ce : Nat → Int64} {ge : Nat → Nat}
set_option maxHeartbeats 4000000 in
set_option maxRecDepth 100000 in
theorem lX_personTable (hC : pp_CX p m c cX0_personTable 7 s args RX0 D dA dL) (hR : pp_RM R cells slots 2 47) {r t0 u0 : Nat} (hr7 : r < 7) (hq : qq ≤ 16) (hsn : ∀ k, sn k ≤ 5) (hm : mq r ≤ r) (hf : fq r ≤ r) (hpar : mq r ≠ 0 → fq r ≠ 0) (hal : al r < 8) (how : ow < 2) (ht0 : t0 < 16) (hbg : bg t0 = u0) (hu0 : u0 + 3 ^ pp_sz (pp_set mq fq r) 7 ≤ 1320) : ∀ (n : Nat) (k : Nat) (gg : Nat → Nat) (ls : Array Slot) (H : Heap) (locs : List Loc), 3 ^ pp_sz (pp_set mq fq r) 7 - k = n → k ≤ 3 ^ pp_sz (pp_set mq fq r) 7 → pp_G gg → pp_IX D dA dL ad A H0 cn qq mq fq sn al ow tb us sc bg (pp_fill ce u0 (pp_YP qq mq fq sn al ow r) k) gg H locs → lv_has ls 7 [(0, .ref (ad 0)), (1, .int (nI r)), (2, .int (nI (pp_set mq fq r))), (3, .int (nI t0)), (4, .int (nI (pp_sz (pp_set mq fq r) 7))), (5, .int (nI (3 ^ pp_sz (pp_set mq fq r) 7))), (6, .int (nI k))] → (∀ (gg : Nat → Nat) (_ : pp_G gg) (ls : Array Slot) (H : Heap) (locs : List Loc), pp_IX D dA dL ad A H0 cn qq mq fq sn al ow tb us sc bg (pp_fill ce u0 (pp_YP qq mq fq sn al ow r) (3 ^ pp_sz (pp_set mq fq r) 7)) gg H locs → lv_has ls 7 [(0, .ref (ad 0)), (1, .int (nI r)), (2, .int (nI (pp_set mq fq r))), (3, .int (nI t0)), (4, .int (nI (pp_sz (pp_set mq fq r) 7))), (5, .int (nI (3 ^ pp_sz (pp_set mq fq r) 7))), (6, .int (nI (3 ^ pp_sz (pp_set mq fq r) 7)))] → W p l e R s m args below meth c H locs cells slots Q (F0 m 96 ls [])) → W p l e R s m args below meth c H locs cells slots Q (F0 m 57 ls []) := by
  have hx := hC.1.1
  have hb := hC.1.2.1
  intro n
  induction n using Nat.strongRecOn with
  | ind n ih =>
    intro k gg ls H locs hn g1 g2 hw hl kk1
    refine lv_iload hx hb dX0_personTable_57 (lv_at hl 6 rfl) ?_
    refine lv_iload hx hb dX0_personTable_59 (lv_at hl 5 rfl) ?_
    refine nr_ge (tgt := 96) hx hb dX0_personTable_61 (by decide) (by omega) (by omega) (fun h1 => ?_) (fun h1 => ?_)
    · obtain rfl : k = 3 ^ pp_sz (pp_set mq fq r) 7 := by omega
      exact kk1 gg g2 ls H locs hw hl
    · refine lv_aload_n hx hb dX0_personTable_64 rfl (lv_at hl 0 rfl) ?_
      refine lv_iload_n hx hb dX0_personTable_65 rfl (lv_at hl 2 rfl) ?_
      refine lv_iload hx hb dX0_personTable_66 (lv_at hl 6 rfl) ?_
      refine xc_spread  hC hw (pp_set_lt hr7 hm hf) (by omega) (hR.le (by decide) (by decide)) hl.1 (Nat.le_of_ble_eq_true rfl) dX0_personTable_68 (fun H locs hw hk => ?_)
      refine lv_aload_n hx hb dX0_personTable_71 rfl (lv_at hl 0 rfl) ?_
      refine xg_ce hC hw dX0_personTable_72 ?_
      refine lv_aload_n hx hb dX0_personTable_75 rfl (lv_at hl 0 rfl) ?_
      refine xg_bg hC hw dX0_personTable_76 ?_
      refine lv_iload_n hx hb dX0_personTable_79 rfl (lv_at hl 3 rfl) ?_
      refine xl_bg hC hw ht0 dX0_personTable_80 ?_
      refine lv_iload hx hb dX0_personTable_81 (lv_at hl 6 rfl) ?_
      refine nr_add hx hb dX0_personTable_83 ?_
      refine nr_top (y := (nI (u0 + k))) (by rw [hbg]) ?_
      refine lv_aload_n hx hb dX0_personTable_84 rfl (lv_at hl 0 rfl) ?_
      refine lv_iload_n hx hb dX0_personTable_85 rfl (lv_at hl 1 rfl) ?_
      refine xc_factor  hC hw hr7 hq hsn hm hf hpar (pp_spr_G g2) hal how (hR.le (by decide) (by decide)) hl.1 (Nat.le_of_ble_eq_true rfl) dX0_personTable_86 ?_
      refine nr_topl (pp_YP_eq gg (pp_set_lt hr7 hm hf)) ?_
      refine xs_ce hC hw (by omega) dX0_personTable_89 (fun H locs hw => ?_)
      rw [pp_fill_s] at hw
      refine lv_iinc (v := (nI (k + 1))) (lv' := [(6, .int (nI (k + 1))), (0, .ref (ad 0)), (1, .int (nI r)), (2, .int (nI (pp_set mq fq r))), (3, .int (nI t0)), (4, .int (nI (pp_sz (pp_set mq fq r) 7))), (5, .int (nI (3 ^ pp_sz (pp_set mq fq r) 7)))]) hx hb dX0_personTable_90 hl (k := 6) rfl (pn_inc _) (by decide) rfl (fun ls hl => ?_)
      refine lv_goto (tgt := 57) hx hb dX0_personTable_93 (by decide) ?_
      exact ih (3 ^ pp_sz (pp_set mq fq r) 7 - (k + 1)) (by omega) (k + 1) _ ls H locs rfl (by omega) (pp_spr_G g2) hw (lv_sub hl [1, 2, 3, 4, 5, 6, 0] rfl) kk1
end PL_personTable
set_option maxHeartbeats 4000000 in
set_option maxRecDepth 100000 in
theorem mX_personTable (l : Launch) (D : va_G) (dA dL : ClassId) (ad : Nat → Nat) (cn qq : Nat) (mq fq sn al : Nat → Nat) (ow tb us : Nat) (sc bg : Nat → Nat) (ce : Nat → Int64) (ge : Nat → Nat) (r : Nat) (hr7 : r < 7) (hq : qq ≤ 16) (hsn : ∀ k, sn k ≤ 5) (hm : mq r ≤ r) (hf : fq r ≤ r) (hpar : mq r ≠ 0 → fq r ≠ 0) (hG : pp_G ge) (hal : al r < 8) (how : ow < 2) (htb : tb < 16) (hus : us + 3 ^ pp_sz (pp_set mq fq r) 7 ≤ 1320) : Met l yX0_personTable (ws_ yX0_personTable cX0_personTable 7 none) ({ frames := 2, cells := 0, slots := 0, locals := 47 } : Room) (pp_Pc D dA dL (pp_WX dA dL ad cn qq mq fq sn al ow tb us sc bg ce ge) [.ref (ad 0), .int (nI r)]) (va_Qv (fun (u : Nat → Nat) => pp_G u) (fun u t => va_P D vwCl ((fun (u : Nat → Nat) => pp_WX dA dL ad cn qq mq fq sn al ow (tb + 1) (us + 3 ^ pp_sz (pp_set mq fq r) 7) (va_up sc tb (pp_set mq fq r)) (va_up bg tb us) (pp_fill ce us (pp_YP qq mq fq sn al ow r) (3 ^ pp_sz (pp_set mq fq r) 7)) u) u) t.heap) (pp_AX ad)) 0 0 (pp_AX ad) := by
  refine pp_ofX (by decide) rfl (Nat.le_of_ble_eq_true rfl) ?_
  intro p e s m below meth c ls hC hr hlocks hw hl
  have hx := hC.1.1
  have hb := hC.1.2.1
  have hl : lv_has ls 7 [(0, .ref (ad 0)), (1, .int (nI r))] := hl
  have hR : pp_RM ({ frames := 2, cells := 0, slots := 0, locals := 47 } : Room) 0 0 2 47 := ⟨Nat.le_of_ble_eq_true rfl, Nat.le_of_ble_eq_true rfl, Nat.le_of_ble_eq_true rfl, Nat.le_of_ble_eq_true rfl⟩
  refine lv_iconst (v := (nI 1)) hx hb dX0_personTable_0 (by decide) ?_
  refine lv_iload_n hx hb dX0_personTable_1 rfl (lv_at hl 1 rfl) ?_
  refine nr_shl1 hx hb (by omega) dX0_personTable_2 ?_
  refine lv_istore_n (lv' := [(2, .int (nI (2 ^ r))), (0, .ref (ad 0)), (1, .int (nI r))]) hx hb dX0_personTable_3 rfl hl (by decide) rfl (fun ls hl => ?_)
  refine lv_aload_n hx hb dX0_personTable_4 rfl (lv_at hl 1 rfl) ?_
  refine xg_mq hC hw dX0_personTable_5 ?_
  refine lv_iload_n hx hb dX0_personTable_8 rfl (lv_at hl 2 rfl) ?_
  refine xl_mq hC hw (by omega) dX0_personTable_9 ?_
  refine nr_m_lt (tgt := 33) hx hb dX0_personTable_10 (by decide) (by omega) (fun h1 => ?_) (fun h1 => ?_)
  · rw [show 2 ^ r = pp_set mq fq r from by rw [pp_set, if_pos h1]] at hl
    refine lv_aload_n hx hb dX0_personTable_33 rfl (lv_at hl 1 rfl) ?_
    refine lv_iload_n hx hb dX0_personTable_34 rfl (lv_at hl 0 rfl) ?_
    refine xc_openTable  hC hw (pp_set_lt hr7 hm hf) htb (Nat.le_trans (Nat.le_add_right _ _) hus) (hR.le (by decide) (by decide)) hl.1 (Nat.le_of_ble_eq_true rfl) dX0_personTable_35 (fun H locs hw hk => ?_)
    refine lv_istore_n (lv' := [(3, .int (nI tb)), (2, .int (nI (pp_set mq fq r))), (0, .ref (ad 0)), (1, .int (nI r))]) hx hb dX0_personTable_38 rfl hl (by decide) rfl (fun ls hl => ?_)
    refine lv_aload_n hx hb dX0_personTable_39 rfl (lv_at hl 2 rfl) ?_
    refine lv_iload_n hx hb dX0_personTable_40 rfl (lv_at hl 1 rfl) ?_
    refine xc_sizeOf  hC hw (pp_set_lt hr7 hm hf) (hR.le (by decide) (by decide)) hl.1 (Nat.le_of_ble_eq_true rfl) dX0_personTable_41 ?_
    refine lv_istore (lv' := [(4, .int (nI (pp_sz (pp_set mq fq r) 7))), (3, .int (nI tb)), (2, .int (nI (pp_set mq fq r))), (0, .ref (ad 0)), (1, .int (nI r))]) hx hb dX0_personTable_44 hl (by decide) rfl (fun ls hl => ?_)
    refine lv_aload_n hx hb dX0_personTable_46 rfl (lv_at hl 3 rfl) ?_
    refine lv_iload hx hb dX0_personTable_47 (lv_at hl 0 rfl) ?_
    refine xc_power  hC hw (pp_sz_le _ 7) (hR.le (by decide) (by decide)) hl.1 (Nat.le_of_ble_eq_true rfl) dX0_personTable_49 ?_
    refine lv_istore (lv' := [(5, .int (nI (3 ^ pp_sz (pp_set mq fq r) 7))), (4, .int (nI (pp_sz (pp_set mq fq r) 7))), (3, .int (nI tb)), (2, .int (nI (pp_set mq fq r))), (0, .ref (ad 0)), (1, .int (nI r))]) hx hb dX0_personTable_52 hl (by decide) rfl (fun ls hl => ?_)
    refine lv_iconst (v := (nI 0)) hx hb dX0_personTable_54 (by decide) ?_
    refine lv_istore (lv' := [(6, .int (nI 0)), (5, .int (nI (3 ^ pp_sz (pp_set mq fq r) 7))), (4, .int (nI (pp_sz (pp_set mq fq r) 7))), (3, .int (nI tb)), (2, .int (nI (pp_set mq fq r))), (0, .ref (ad 0)), (1, .int (nI r))]) hx hb dX0_personTable_55 hl (by decide) rfl (fun ls hl => ?_)
    refine lX_personTable (ce := ce) hC hR hr7 hq hsn hm hf hpar hal how htb (pp_up_self bg tb us) hus _ 0 ge ls H locs rfl (Nat.zero_le _) hG hw (lv_sub hl [5, 6, 4, 3, 2, 1, 0] rfl) (fun gg hgg ls H locs hw hl => ?_)
    exact pp_rQ_v (F := fun (u : Nat → Nat) => pp_WX dA dL ad cn qq mq fq sn al ow (tb + 1) (us + 3 ^ pp_sz (pp_set mq fq r) 7) (va_up sc tb (pp_set mq fq r)) (va_up bg tb us) (pp_fill ce us (pp_YP qq mq fq sn al ow r) (3 ^ pp_sz (pp_set mq fq r) 7)) u) hx hb hr hlocks dX0_personTable_96 gg hgg hw.1 hw.2.2
  · refine lv_iload_n hx hb dX0_personTable_13 rfl (lv_at hl 0 rfl) ?_
    refine lv_iconst (v := (nI 1)) hx hb dX0_personTable_14 (by decide) ?_
    refine lv_aload_n hx hb dX0_personTable_15 rfl (lv_at hl 1 rfl) ?_
    refine xg_mq hC hw dX0_personTable_16 ?_
    refine lv_iload_n hx hb dX0_personTable_19 rfl (lv_at hl 2 rfl) ?_
    refine xl_mq hC hw (by omega) dX0_personTable_20 ?_
    refine nr_top (y := (nI (mq r - 1))) (pn_m h1) ?_
    refine nr_shl1 hx hb (by omega) dX0_personTable_21 ?_
    refine nr_or hx hb dX0_personTable_22 ?_
    refine lv_iconst (v := (nI 1)) hx hb dX0_personTable_23 (by decide) ?_
    refine lv_aload_n hx hb dX0_personTable_24 rfl (lv_at hl 1 rfl) ?_
    refine xg_fq hC hw dX0_personTable_25 ?_
    refine lv_iload_n hx hb dX0_personTable_28 rfl (lv_at hl 2 rfl) ?_
    refine xl_fq hC hw (by omega) dX0_personTable_29 ?_
    refine nr_top (y := (nI (fq r - 1))) (pn_m (hpar h1)) ?_
    refine nr_shl1 hx hb (by omega) dX0_personTable_30 ?_
    refine nr_or hx hb dX0_personTable_31 ?_
    refine nr_top (y := (nI (pp_set mq fq r))) (by rw [pp_set, if_neg h1]) ?_
    refine lv_istore_n (lv' := [(2, .int (nI (pp_set mq fq r))), (0, .ref (ad 0)), (1, .int (nI r))]) hx hb dX0_personTable_32 rfl hl (by decide) rfl (fun ls hl => ?_)
    refine lv_aload_n hx hb dX0_personTable_33 rfl (lv_at hl 1 rfl) ?_
    refine lv_iload_n hx hb dX0_personTable_34 rfl (lv_at hl 0 rfl) ?_
    refine xc_openTable  hC hw (pp_set_lt hr7 hm hf) htb (Nat.le_trans (Nat.le_add_right _ _) hus) (hR.le (by decide) (by decide)) hl.1 (Nat.le_of_ble_eq_true rfl) dX0_personTable_35 (fun H locs hw hk => ?_)
    refine lv_istore_n (lv' := [(3, .int (nI tb)), (2, .int (nI (pp_set mq fq r))), (0, .ref (ad 0)), (1, .int (nI r))]) hx hb dX0_personTable_38 rfl hl (by decide) rfl (fun ls hl => ?_)
    refine lv_aload_n hx hb dX0_personTable_39 rfl (lv_at hl 2 rfl) ?_
    refine lv_iload_n hx hb dX0_personTable_40 rfl (lv_at hl 1 rfl) ?_
    refine xc_sizeOf  hC hw (pp_set_lt hr7 hm hf) (hR.le (by decide) (by decide)) hl.1 (Nat.le_of_ble_eq_true rfl) dX0_personTable_41 ?_
    refine lv_istore (lv' := [(4, .int (nI (pp_sz (pp_set mq fq r) 7))), (3, .int (nI tb)), (2, .int (nI (pp_set mq fq r))), (0, .ref (ad 0)), (1, .int (nI r))]) hx hb dX0_personTable_44 hl (by decide) rfl (fun ls hl => ?_)
    refine lv_aload_n hx hb dX0_personTable_46 rfl (lv_at hl 3 rfl) ?_
    refine lv_iload hx hb dX0_personTable_47 (lv_at hl 0 rfl) ?_
    refine xc_power  hC hw (pp_sz_le _ 7) (hR.le (by decide) (by decide)) hl.1 (Nat.le_of_ble_eq_true rfl) dX0_personTable_49 ?_
    refine lv_istore (lv' := [(5, .int (nI (3 ^ pp_sz (pp_set mq fq r) 7))), (4, .int (nI (pp_sz (pp_set mq fq r) 7))), (3, .int (nI tb)), (2, .int (nI (pp_set mq fq r))), (0, .ref (ad 0)), (1, .int (nI r))]) hx hb dX0_personTable_52 hl (by decide) rfl (fun ls hl => ?_)
    refine lv_iconst (v := (nI 0)) hx hb dX0_personTable_54 (by decide) ?_
    refine lv_istore (lv' := [(6, .int (nI 0)), (5, .int (nI (3 ^ pp_sz (pp_set mq fq r) 7))), (4, .int (nI (pp_sz (pp_set mq fq r) 7))), (3, .int (nI tb)), (2, .int (nI (pp_set mq fq r))), (0, .ref (ad 0)), (1, .int (nI r))]) hx hb dX0_personTable_55 hl (by decide) rfl (fun ls hl => ?_)
    refine lX_personTable (ce := ce) hC hR hr7 hq hsn hm hf hpar hal how htb (pp_up_self bg tb us) hus _ 0 ge ls H locs rfl (Nat.zero_le _) hG hw (lv_sub hl [5, 6, 4, 3, 2, 1, 0] rfl) (fun gg hgg ls H locs hw hl => ?_)
    exact pp_rQ_v (F := fun (u : Nat → Nat) => pp_WX dA dL ad cn qq mq fq sn al ow (tb + 1) (us + 3 ^ pp_sz (pp_set mq fq r) 7) (va_up sc tb (pp_set mq fq r)) (va_up bg tb us) (pp_fill ce us (pp_YP qq mq fq sn al ow r) (3 ^ pp_sz (pp_set mq fq r) 7)) u) hx hb hr hlocks dX0_personTable_96 gg hgg hw.1 hw.2.2
section PC_X_personTable
variable {p : Program} {l : Launch} {e : Env} {R : Room} {s : State} {m : MethodId} {args : Array Value} {below : List Frame} {meth : Method} {c : Code} {H : Heap} {locs : List Loc} {cells slots : Nat} {Q : State → Prop}
variable {cc : ByteArray} {pc nL : Nat} {ls : Array Slot} {rest : List Value}
variable {D : va_G} {dA dL : ClassId} {ad : Nat → Nat} {A : Nat → Prop} {H0 : Heap} {cn qq : Nat} {mq fq sn al : Nat → Nat} {ow tb us : Nat} {sc bg : Nat → Nat} {ce : Nat → Int64} {ge : Nat → Nat}
set_option maxRecDepth 100000 in
theorem xc_personTable (hC : pp_CX p m c cc nL s args RX0 D dA dL) (hw : pp_IX D dA dL ad A H0 cn qq mq fq sn al ow tb us sc bg ce ge H locs) {r : Nat} (hr7 : r < 7) (hq : qq ≤ 16) (hsn : ∀ k, sn k ≤ 5) (hm : mq r ≤ r) (hf : fq r ≤ r) (hpar : mq r ≠ 0 → fq r ≠ 0) (hG : pp_G ge) (hal : al r < 8) (how : ow < 2) (htb : tb < 16) (hus : us + 3 ^ pp_sz (pp_set mq fq r) 7 ≤ 1320) (hR : pp_RM R cells slots 3 73) (hsz : ls.size = nL) (hrest : (rest.map fun v => v.category).sum ≤ 8) (hdg : decode cc pc = .ok (.invokevirtual 98, 3)) (kk : ∀ (u : Nat → Nat) (H1 : Heap) (locs1 : List Loc), (fun (u : Nat → Nat) => pp_G u) u → pp_IX D dA dL ad A H0 cn qq mq fq sn al ow (tb + 1) (us + 3 ^ pp_sz (pp_set mq fq r) 7) (va_up sc tb (pp_set mq fq r)) (va_up bg tb us) (pp_fill ce us (pp_YP qq mq fq sn al ow r) (3 ^ pp_sz (pp_set mq fq r) 7)) u H1 locs1 → (∀ q : Nat, q < H.size → ¬ pp_AX ad q → H1[q]? = H[q]?) → W p l e R s m args below meth c H1 locs1 cells slots Q (F0 m (pc + 3) ls rest)) : W p l e R s m args below meth c H locs cells slots Q (F0 m pc ls (.int (nI r) :: .ref (ad 0) :: rest)) := pp_cQ_v (n := 1) (F := fun (u : Nat → Nat) => pp_WX dA dL ad cn qq mq fq sn al ow (tb + 1) (us + 3 ^ pp_sz (pp_set mq fq r) 7) (va_up sc tb (pp_set mq fq r)) (va_up bg tb us) (pp_fill ce us (pp_YP qq mq fq sn al ow r) (3 ^ pp_sz (pp_set mq fq r) 7)) u) hC hw.1 hw.2.1 hw.2.2 (mX_personTable l D dA dL ad cn qq mq fq sn al ow tb us sc bg ce ge r hr7 hq hsn hm hf hpar hG hal how htb hus) (pp_D_all hw.2.1 rfl) (lw_V q134 q136 qs5 q30 q137) (by decide +kernel) rfl rfl rfl hR (va_recv hC.2 hw.1 (ci := 0) (q0 := 0) rfl rfl) hsz hrest hdg rfl (fun u H1 l1 h hP hS hk => kk u H1 l1 h ⟨hP, pp_D_addr hw.2.1 rfl, hS⟩ hk)
end PC_X_personTable
end
section
def pp_YT (sc bg : Nat → Nat) (ce : Nat → Int64) (r n S : Nat) : Nat → Int64 := fun k => pp_Y sc bg ce r n (pp_spr S k (fun _ => 0) 7)
/-- what a product reads lies ahead of the table that is being filled -/
theorem pp_pp_fill {sc bg : Nat → Nat} {ce : Nat → Int64} {r n u0 k : Nat} {Y : Nat → Int64} {a : Nat → Nat} (ha : pp_G a) (hs : ∀ t, t < n → sc t < 128 ∧ bg t + 3 ^ pp_sz (sc t) 7 ≤ u0) : pp_pp sc bg (pp_fill ce u0 Y k) r a n = pp_pp sc bg ce r a n :=
  pp_pp_congr n (fun t _ => ⟨rfl, rfl⟩) (fun t ht _ => pp_fill_lo k _ (by have h1 := (hs t ht).2; have h2 := pp_pl_lt (S := sc t) ha; omega))
theorem pp_YT_eq {sc bg : Nat → Nat} {ce : Nat → Int64} {r n S k : Nat} (g : Nat → Nat) (hr : r < 7) (hs : ∀ t, t < n → sc t < 128) (hS : pp_ar sc r n = S) : ((0 + pp_pp sc bg ce r (va_up (pp_spr S k g 7) r 0) n) + pp_pp sc bg ce r (va_up (pp_spr S k g 7) r 1) n) + pp_pp sc bg ce r (va_up (pp_spr S k g 7) r 2) n = pp_YT sc bg ce r n S k := by
  rw [Int64.zero_add]
  have hl := pp_ar_lt r hs
  exact pp_Y_congr (a := pp_spr S k g 7) hr hs (fun q hq => pp_spr_eq _ _ (pp_bt_lt7 hl hq) (by rw [← hS]; exact hq))
section PL_takeOutA
variable {p : Program} {l : Launch} {e : Env} {R : Room} {s : State} {m : MethodId} {args : Array Value} {below : List Frame} {meth : Method} {c : Code} {H : Heap} {locs : List Loc} {cells slots : Nat} {Q : State → Prop}
variable {cc : ByteArray} {pc nL : Nat} {ls : Array Slot} {rest : List Value}
variable {D : va_G} {dA dL : ClassId} {ad : Nat → Nat} {A : Nat → Prop} {H0 : Heap} {cn qq : Nat} {mq fq sn al : Nat → Nat} {ow tb us : Nat} {sc bg : Nat → Nat} {ce : Nat → Int64} {ge : Nat → Nat}
set_option maxHeartbeats 4000000 in
set_option maxRecDepth 100000 in
theorem lX_takeA (hC : pp_CX p m c cX0_takeOut 13 s args RX0 D dA dL) (hR : pp_RM R cells slots 2 49) {r S en u0 : Nat} (hSe : pp_ar sc r en = S) (hS : S < 128) (hp : r < 7) (hen : en < 16) (hbg : bg en = u0) (hs : ∀ t, t < en → sc t < 128 ∧ bg t + 3 ^ pp_sz (sc t) 7 ≤ u0) (hu0 : u0 + 3 ^ pp_sz S 7 ≤ 1320) : ∀ (n : Nat) (k : Nat) (gg : Nat → Nat) (ls : Array Slot) (H : Heap) (locs : List Loc), 3 ^ pp_sz S 7 - k = n → k ≤ 3 ^ pp_sz S 7 → pp_G gg → pp_IX D dA dL ad A H0 cn qq mq fq sn al ow tb us sc bg (pp_fill ce u0 (pp_YT sc bg ce r en S) k) gg H locs → lv_has ls 13 [(0, .ref (ad 0)), (1, .int (nI r)), (2, .int (nI S)), (3, .int (nI en)), (4, .int (nI en)), (5, .int (nI (pp_sz S 7))), (6, .int (nI (3 ^ pp_sz S 7))), (7, .int (nI k))] → (∀ (gg : Nat → Nat) (_ : pp_G gg) (ls : Array Slot) (H : Heap) (locs : List Loc), pp_IX D dA dL ad A H0 cn qq mq fq sn al ow tb us sc bg (pp_fill ce u0 (pp_YT sc bg ce r en S) (3 ^ pp_sz S 7)) gg H locs → lv_has ls 13 [(0, .ref (ad 0)), (1, .int (nI r)), (2, .int (nI S)), (3, .int (nI en)), (4, .int (nI en)), (5, .int (nI (pp_sz S 7))), (6, .int (nI (3 ^ pp_sz S 7))), (7, .int (nI (3 ^ pp_sz S 7)))] → W p l e R s m args below meth c H locs cells slots Q (F0 m 114 ls [])) → W p l e R s m args below meth c H locs cells slots Q (F0 m 36 ls []) := by
  have hx := hC.1.1
  have hb := hC.1.2.1
  intro n
  induction n using Nat.strongRecOn with
  | ind n ih =>
    intro k gg ls H locs hn g1 g2 hw hl kk1
    refine lv_iload hx hb dX0_takeOut_36 (lv_at hl 7 rfl) ?_
    refine lv_iload hx hb dX0_takeOut_38 (lv_at hl 6 rfl) ?_
    refine nr_ge (tgt := 114) hx hb dX0_takeOut_40 (by decide) (by omega) (by omega) (fun h1 => ?_) (fun h1 => ?_)
    · obtain rfl : k = 3 ^ pp_sz S 7 := by omega
      exact kk1 gg g2 ls H locs hw hl
    · refine lv_aload_n hx hb dX0_takeOut_43 rfl (lv_at hl 0 rfl) ?_
      refine lv_iload_n hx hb dX0_takeOut_44 rfl (lv_at hl 2 rfl) ?_
      refine lv_iload hx hb dX0_takeOut_45 (lv_at hl 7 rfl) ?_
      refine xc_spread  hC hw hS (by omega) (hR.le (by decide) (by decide)) hl.1 (Nat.le_of_ble_eq_true rfl) dX0_takeOut_47 (fun H locs hw hk => ?_)
      refine lv_lconst (v := 0) hx hb dX0_takeOut_50 (by decide) ?_
      refine lv_lstore (lv' := [(8, .long 0), (0, .ref (ad 0)), (1, .int (nI r)), (2, .int (nI S)), (3, .int (nI en)), (4, .int (nI en)), (5, .int (nI (pp_sz S 7))), (6, .int (nI (3 ^ pp_sz S 7))), (7, .int (nI k))]) hx hb dX0_takeOut_51 hl (by decide) rfl (fun ls hl => ?_)
      refine lv_iconst (v := (nI 0)) hx hb dX0_takeOut_53 (by decide) ?_
      refine lv_istore (lv' := [(10, .int (nI 0)), (8, .long 0), (0, .ref (ad 0)), (1, .int (nI r)), (2, .int (nI S)), (3, .int (nI en)), (4, .int (nI en)), (5, .int (nI (pp_sz S 7))), (6, .int (nI (3 ^ pp_sz S 7))), (7, .int (nI k))]) hx hb dX0_takeOut_54 hl (by decide) rfl (fun ls hl => ?_)
      refine lv_iload hx hb dX0_takeOut_56 (lv_at hl 0 rfl) ?_
      refine lv_iconst (v := (nI 3)) hx hb dX0_takeOut_58 (by decide) ?_
      refine nr_ge (tgt := 91) hx hb dX0_takeOut_59 (by decide) (by omega) (by omega) (fun h2 => ?_) (fun h2 => ?_)
      · exact absurd h2 (by decide)
      · refine lv_aload_n hx hb dX0_takeOut_62 rfl (lv_at hl 2 rfl) ?_
        refine xg_ge hC hw dX0_takeOut_63 ?_
        refine lv_iload_n hx hb dX0_takeOut_66 rfl (lv_at hl 3 rfl) ?_
        refine lv_iload hx hb dX0_takeOut_67 (lv_at hl 0 rfl) ?_
        refine xs_ge hC hw hp dX0_takeOut_69 (fun H locs hw => ?_)
        refine lv_aload_n hx hb dX0_takeOut_70 rfl (lv_at hl 2 rfl) ?_
        refine lv_iload_n hx hb dX0_takeOut_71 rfl (lv_at hl 3 rfl) ?_
        refine lv_iload_n hx hb dX0_takeOut_72 rfl (lv_at hl 5 rfl) ?_
        refine xc_product  hC hw hp (by omega) (fun t ht => ⟨(hs t ht).1, Nat.le_trans (hs t ht).2 (by omega)⟩) (pp_G_up (pp_spr_G g2) (by decide)) (hR.le (by decide) (by decide)) hl.1 (Nat.le_of_ble_eq_true rfl) dX0_takeOut_73 ?_
        refine nr_topl (y := (pp_pp sc bg ce r (va_up (pp_spr S k gg 7) r 0) en)) (pp_pp_fill (pp_G_up (pp_spr_G g2) (by decide)) hs) ?_
        refine lv_lstore (lv' := [(11, .long (pp_pp sc bg ce r (va_up (pp_spr S k gg 7) r 0) en)), (10, .int (nI 0)), (8, .long 0), (0, .ref (ad 0)), (1, .int (nI r)), (2, .int (nI S)), (3, .int (nI en)), (4, .int (nI en)), (5, .int (nI (pp_sz S 7))), (6, .int (nI (3 ^ pp_sz S 7))), (7, .int (nI k))]) hx hb dX0_takeOut_76 hl (by decide) rfl (fun ls hl => ?_)
        refine lv_lload hx hb dX0_takeOut_78 (lv_at hl 2 rfl) ?_
        refine lv_lload hx hb dX0_takeOut_80 (lv_at hl 0 rfl) ?_
        refine lv_ladd hx hb dX0_takeOut_82 ?_
        refine lv_lstore (lv' := [(8, .long (0 + (pp_pp sc bg ce r (va_up (pp_spr S k gg 7) r 0) en))), (11, .long (pp_pp sc bg ce r (va_up (pp_spr S k gg 7) r 0) en)), (10, .int (nI 0)), (0, .ref (ad 0)), (1, .int (nI r)), (2, .int (nI S)), (3, .int (nI en)), (4, .int (nI en)), (5, .int (nI (pp_sz S 7))), (6, .int (nI (3 ^ pp_sz S 7))), (7, .int (nI k))]) hx hb dX0_takeOut_83 hl (by decide) rfl (fun ls hl => ?_)
        refine lv_iinc (v := (nI 1)) (lv' := [(10, .int (nI 1)), (8, .long (0 + (pp_pp sc bg ce r (va_up (pp_spr S k gg 7) r 0) en))), (11, .long (pp_pp sc bg ce r (va_up (pp_spr S k gg 7) r 0) en)), (0, .ref (ad 0)), (1, .int (nI r)), (2, .int (nI S)), (3, .int (nI en)), (4, .int (nI en)), (5, .int (nI (pp_sz S 7))), (6, .int (nI (3 ^ pp_sz S 7))), (7, .int (nI k))]) hx hb dX0_takeOut_85 hl (k := 2) rfl (pn_inc _) (by decide) rfl (fun ls hl => ?_)
        refine lv_goto (tgt := 56) hx hb dX0_takeOut_88 (by decide) ?_
        refine lv_iload hx hb dX0_takeOut_56 (lv_at hl 0 rfl) ?_
        refine lv_iconst (v := (nI 3)) hx hb dX0_takeOut_58 (by decide) ?_
        refine nr_ge (tgt := 91) hx hb dX0_takeOut_59 (by decide) (by omega) (by omega) (fun h2 => ?_) (fun h2 => ?_)
        · exact absurd h2 (by decide)
        · refine lv_aload_n hx hb dX0_takeOut_62 rfl (lv_at hl 3 rfl) ?_
          refine xg_ge hC hw dX0_takeOut_63 ?_
          refine lv_iload_n hx hb dX0_takeOut_66 rfl (lv_at hl 4 rfl) ?_
          refine lv_iload hx hb dX0_takeOut_67 (lv_at hl 0 rfl) ?_
          refine xs_ge hC hw hp dX0_takeOut_69 (fun H locs hw => ?_)
          rw [bx_uu] at hw
          refine lv_aload_n hx hb dX0_takeOut_70 rfl (lv_at hl 3 rfl) ?_
          refine lv_iload_n hx hb dX0_takeOut_71 rfl (lv_at hl 4 rfl) ?_
          refine lv_iload_n hx hb dX0_takeOut_72 rfl (lv_at hl 6 rfl) ?_
          refine xc_product  hC hw hp (by omega) (fun t ht => ⟨(hs t ht).1, Nat.le_trans (hs t ht).2 (by omega)⟩) (pp_G_up (pp_spr_G g2) (by decide)) (hR.le (by decide) (by decide)) hl.1 (Nat.le_of_ble_eq_true rfl) dX0_takeOut_73 ?_
          refine nr_topl (y := (pp_pp sc bg ce r (va_up (pp_spr S k gg 7) r 1) en)) (pp_pp_fill (pp_G_up (pp_spr_G g2) (by decide)) hs) ?_
          refine lv_lstore (lv' := [(11, .long (pp_pp sc bg ce r (va_up (pp_spr S k gg 7) r 1) en)), (10, .int (nI 1)), (8, .long (0 + (pp_pp sc bg ce r (va_up (pp_spr S k gg 7) r 0) en))), (0, .ref (ad 0)), (1, .int (nI r)), (2, .int (nI S)), (3, .int (nI en)), (4, .int (nI en)), (5, .int (nI (pp_sz S 7))), (6, .int (nI (3 ^ pp_sz S 7))), (7, .int (nI k))]) hx hb dX0_takeOut_76 hl (by decide) rfl (fun ls hl => ?_)
          refine lv_lload hx hb dX0_takeOut_78 (lv_at hl 2 rfl) ?_
          refine lv_lload hx hb dX0_takeOut_80 (lv_at hl 0 rfl) ?_
          refine lv_ladd hx hb dX0_takeOut_82 ?_
          refine lv_lstore (lv' := [(8, .long ((0 + (pp_pp sc bg ce r (va_up (pp_spr S k gg 7) r 0) en)) + (pp_pp sc bg ce r (va_up (pp_spr S k gg 7) r 1) en))), (11, .long (pp_pp sc bg ce r (va_up (pp_spr S k gg 7) r 1) en)), (10, .int (nI 1)), (0, .ref (ad 0)), (1, .int (nI r)), (2, .int (nI S)), (3, .int (nI en)), (4, .int (nI en)), (5, .int (nI (pp_sz S 7))), (6, .int (nI (3 ^ pp_sz S 7))), (7, .int (nI k))]) hx hb dX0_takeOut_83 hl (by decide) rfl (fun ls hl => ?_)
          refine lv_iinc (v := (nI 2)) (lv' := [(10, .int (nI 2)), (8, .long ((0 + (pp_pp sc bg ce r (va_up (pp_spr S k gg 7) r 0) en)) + (pp_pp sc bg ce r (va_up (pp_spr S k gg 7) r 1) en))), (11, .long (pp_pp sc bg ce r (va_up (pp_spr S k gg 7) r 1) en)), (0, .ref (ad 0)), (1, .int (nI r)), (2, .int (nI S)), (3, .int (nI en)), (4, .int (nI en)), (5, .int (nI (pp_sz S 7))), (6, .int (nI (3 ^ pp_sz S 7))), (7, .int (nI k))]) hx hb dX0_takeOut_85 hl (k := 2) rfl (pn_inc _) (by decide) rfl (fun ls hl => ?_)
          refine lv_goto (tgt := 56) hx hb dX0_takeOut_88 (by decide) ?_
          refine lv_iload hx hb dX0_takeOut_56 (lv_at hl 0 rfl) ?_
          refine lv_iconst (v := (nI 3)) hx hb dX0_takeOut_58 (by decide) ?_
          refine nr_ge (tgt := 91) hx hb dX0_takeOut_59 (by decide) (by omega) (by omega) (fun h2 => ?_) (fun h2 => ?_)
          · exact absurd h2 (by decide)
          · refine lv_aload_n hx hb dX0_takeOut_62 rfl (lv_at hl 3 rfl) ?_
            refine xg_ge hC hw dX0_takeOut_63 ?_
            refine lv_iload_n hx hb dX0_takeOut_66 rfl (lv_at hl 4 rfl) ?_
            refine lv_iload hx hb dX0_takeOut_67 (lv_at hl 0 rfl) ?_
            refine xs_ge hC hw hp dX0_takeOut_69 (fun H locs hw => ?_)
            rw [bx_uu] at hw
            refine lv_aload_n hx hb dX0_takeOut_70 rfl (lv_at hl 3 rfl) ?_
            refine lv_iload_n hx hb dX0_takeOut_71 rfl (lv_at hl 4 rfl) ?_
            refine lv_iload_n hx hb dX0_takeOut_72 rfl (lv_at hl 6 rfl) ?_
            refine xc_product  hC hw hp (by omega) (fun t ht => ⟨(hs t ht).1, Nat.le_trans (hs t ht).2 (by omega)⟩) (pp_G_up (pp_spr_G g2) (by decide)) (hR.le (by decide) (by decide)) hl.1 (Nat.le_of_ble_eq_true rfl) dX0_takeOut_73 ?_
            refine nr_topl (y := (pp_pp sc bg ce r (va_up (pp_spr S k gg 7) r 2) en)) (pp_pp_fill (pp_G_up (pp_spr_G g2) (by decide)) hs) ?_
            refine lv_lstore (lv' := [(11, .long (pp_pp sc bg ce r (va_up (pp_spr S k gg 7) r 2) en)), (10, .int (nI 2)), (8, .long ((0 + (pp_pp sc bg ce r (va_up (pp_spr S k gg 7) r 0) en)) + (pp_pp sc bg ce r (va_up (pp_spr S k gg 7) r 1) en))), (0, .ref (ad 0)), (1, .int (nI r)), (2, .int (nI S)), (3, .int (nI en)), (4, .int (nI en)), (5, .int (nI (pp_sz S 7))), (6, .int (nI (3 ^ pp_sz S 7))), (7, .int (nI k))]) hx hb dX0_takeOut_76 hl (by decide) rfl (fun ls hl => ?_)
            refine lv_lload hx hb dX0_takeOut_78 (lv_at hl 2 rfl) ?_
            refine lv_lload hx hb dX0_takeOut_80 (lv_at hl 0 rfl) ?_
            refine lv_ladd hx hb dX0_takeOut_82 ?_
            refine lv_lstore (lv' := [(8, .long (((0 + (pp_pp sc bg ce r (va_up (pp_spr S k gg 7) r 0) en)) + (pp_pp sc bg ce r (va_up (pp_spr S k gg 7) r 1) en)) + (pp_pp sc bg ce r (va_up (pp_spr S k gg 7) r 2) en))), (11, .long (pp_pp sc bg ce r (va_up (pp_spr S k gg 7) r 2) en)), (10, .int (nI 2)), (0, .ref (ad 0)), (1, .int (nI r)), (2, .int (nI S)), (3, .int (nI en)), (4, .int (nI en)), (5, .int (nI (pp_sz S 7))), (6, .int (nI (3 ^ pp_sz S 7))), (7, .int (nI k))]) hx hb dX0_takeOut_83 hl (by decide) rfl (fun ls hl => ?_)
            refine lv_iinc (v := (nI 3)) (lv' := [(10, .int (nI 3)), (8, .long (((0 + (pp_pp sc bg ce r (va_up (pp_spr S k gg 7) r 0) en)) + (pp_pp sc bg ce r (va_up (pp_spr S k gg 7) r 1) en)) + (pp_pp sc bg ce r (va_up (pp_spr S k gg 7) r 2) en))), (11, .long (pp_pp sc bg ce r (va_up (pp_spr S k gg 7) r 2) en)), (0, .ref (ad 0)), (1, .int (nI r)), (2, .int (nI S)), (3, .int (nI en)), (4, .int (nI en)), (5, .int (nI (pp_sz S 7))), (6, .int (nI (3 ^ pp_sz S 7))), (7, .int (nI k))]) hx hb dX0_takeOut_85 hl (k := 2) rfl (pn_inc _) (by decide) rfl (fun ls hl => ?_)
            refine lv_goto (tgt := 56) hx hb dX0_takeOut_88 (by decide) ?_
            refine lv_iload hx hb dX0_takeOut_56 (lv_at hl 0 rfl) ?_
            refine lv_iconst (v := (nI 3)) hx hb dX0_takeOut_58 (by decide) ?_
            refine nr_ge (tgt := 91) hx hb dX0_takeOut_59 (by decide) (by omega) (by omega) (fun h2 => ?_) (fun h2 => ?_)
            · refine lv_aload_n hx hb dX0_takeOut_91 rfl (lv_at hl 3 rfl) ?_
              refine xg_ce hC hw dX0_takeOut_92 ?_
              refine lv_aload_n hx hb dX0_takeOut_95 rfl (lv_at hl 3 rfl) ?_
              refine xg_bg hC hw dX0_takeOut_96 ?_
              refine lv_iload hx hb dX0_takeOut_99 (lv_at hl 7 rfl) ?_
              refine xl_bg hC hw hen dX0_takeOut_101 ?_
              refine nr_top (y := (nI u0)) (by rw [hbg]) ?_
              refine lv_iload hx hb dX0_takeOut_102 (lv_at hl 10 rfl) ?_
              refine nr_add hx hb dX0_takeOut_104 ?_
              refine lv_lload hx hb dX0_takeOut_105 (lv_at hl 1 rfl) ?_
              refine nr_topl (pp_YT_eq gg hp (fun t ht => (hs t ht).1) hSe) ?_
              refine xs_ce hC hw (by omega) dX0_takeOut_107 (fun H locs hw => ?_)
              rw [pp_fill_s] at hw
              refine lv_iinc (v := (nI (k + 1))) (lv' := [(7, .int (nI (k + 1))), (10, .int (nI 3)), (8, .long (((0 + (pp_pp sc bg ce r (va_up (pp_spr S k gg 7) r 0) en)) + (pp_pp sc bg ce r (va_up (pp_spr S k gg 7) r 1) en)) + (pp_pp sc bg ce r (va_up (pp_spr S k gg 7) r 2) en))), (11, .long (pp_pp sc bg ce r (va_up (pp_spr S k gg 7) r 2) en)), (0, .ref (ad 0)), (1, .int (nI r)), (2, .int (nI S)), (3, .int (nI en)), (4, .int (nI en)), (5, .int (nI (pp_sz S 7))), (6, .int (nI (3 ^ pp_sz S 7)))]) hx hb dX0_takeOut_108 hl (k := 10) rfl (pn_inc _) (by decide) rfl (fun ls hl => ?_)
              refine lv_goto (tgt := 36) hx hb dX0_takeOut_111 (by decide) ?_
              exact ih (3 ^ pp_sz S 7 - (k + 1)) (by omega) (k + 1) _ ls H locs rfl (by omega) (pp_G_up (pp_spr_G g2) (by decide)) hw (lv_sub hl [4, 5, 6, 7, 8, 9, 10, 0] rfl) kk1
            · exact absurd h2 (by decide)
end PL_takeOutA
section PL_takeOutB
variable {p : Program} {l : Launch} {e : Env} {R : Room} {s : State} {m : MethodId} {args : Array Value} {below : List Frame} {meth : Method} {c : Code} {H : Heap} {locs : List Loc} {cells slots : Nat} {Q : State → Prop}
variable {cc : ByteArray} {pc nL : Nat} {ls : Array Slot} {rest : List Value}
variable {D : va_G} {dA dL : ClassId} {ad : Nat → Nat} {A : Nat → Prop} {H0 : Heap} {cn qq : Nat} {mq fq sn al : Nat → Nat} {ow tb us : Nat} {sc bg : Nat → Nat} {ce : Nat → Int64} {ge : Nat → Nat}
set_option maxHeartbeats 4000000 in
set_option maxRecDepth 100000 in
theorem lX_takeB (hC : pp_CX p m c cX0_takeOut 13 s args RX0 D dA dL) {r en : Nat} (hp : r < 7) (hen : en < 16) (hs : ∀ t, t < en → sc t < 128 ∧ bg t < 1320) : ∀ (n : Nat) (i : Nat) (ls : Array Slot) (H : Heap) (locs : List Loc), en - i = n → i ≤ en → pp_IX D dA dL ad A H0 cn qq mq fq sn al ow tb us (pp_cls sc r i) bg (pp_clc sc bg r ce i) ge H locs → lv_has ls 13 [(0, .ref (ad 0)), (1, .int (nI r)), (3, .int (nI en)), (7, .int (nI i))] → (∀ (ls : Array Slot) (H : Heap) (locs : List Loc), pp_IX D dA dL ad A H0 cn qq mq fq sn al ow tb us (pp_cls sc r en) bg (pp_clc sc bg r ce en) ge H locs → lv_has ls 13 [(0, .ref (ad 0)), (1, .int (nI r)), (3, .int (nI en)), (7, .int (nI en))] → W p l e R s m args below meth c H locs cells slots Q (F0 m 165 ls [])) → W p l e R s m args below meth c H locs cells slots Q (F0 m 117 ls []) := by
  have hx := hC.1.1
  have hb := hC.1.2.1
  intro n
  induction n using Nat.strongRecOn with
  | ind n ih =>
    intro i ls H locs hn g1 hw hl kk1
    refine lv_iload hx hb dX0_takeOut_117 (lv_at hl 3 rfl) ?_
    refine lv_iload_n hx hb dX0_takeOut_119 rfl (lv_at hl 2 rfl) ?_
    refine nr_ge (tgt := 165) hx hb dX0_takeOut_120 (by decide) (by omega) (by omega) (fun h1 => ?_) (fun h1 => ?_)
    · obtain rfl : i = en := by omega
      exact kk1 ls H locs hw hl
    · refine lv_aload_n hx hb dX0_takeOut_123 rfl (lv_at hl 0 rfl) ?_
      refine xg_sc hC hw dX0_takeOut_124 ?_
      refine lv_iload hx hb dX0_takeOut_127 (lv_at hl 3 rfl) ?_
      refine xl_sc hC hw (by omega) dX0_takeOut_129 ?_
      refine nr_top (y := (nI (sc i))) (by rw [pp_cls_at]) ?_
      refine lv_iload_n hx hb dX0_takeOut_130 rfl (lv_at hl 1 rfl) ?_
      refine nr_shr hx hb (by have := (hs i h1).1; omega) (by omega) dX0_takeOut_131 ?_
      refine lv_iconst (v := (nI 1)) hx hb dX0_takeOut_132 (by decide) ?_
      refine nr_bt hx hb (by have := (hs i h1).1; omega) dX0_takeOut_133 ?_
      refine lv_iconst (v := (nI 1)) hx hb dX0_takeOut_134 (by decide) ?_
      refine nr_ne (tgt := 159) hx hb dX0_takeOut_135 (by decide) (by have := pp_bt_lt (sc i) r; omega) (by omega) (fun h2 => ?_) (fun h2 => ?_)
      · rw [← pp_cls_n sc r i h2, show pp_clc sc bg r ce i = pp_clc sc bg r ce (i + 1) from by rw [pp_clc, if_neg h2]] at hw
        refine lv_iinc (v := (nI (i + 1))) (lv' := [(7, .int (nI (i + 1))), (0, .ref (ad 0)), (1, .int (nI r)), (3, .int (nI en))]) hx hb dX0_takeOut_159 hl (k := 3) rfl (pn_inc _) (by decide) rfl (fun ls hl => ?_)
        refine lv_goto (tgt := 117) hx hb dX0_takeOut_162 (by decide) ?_
        exact ih (en - (i + 1)) (by omega) (i + 1) ls H locs rfl (by omega) hw (lv_sub hl [1, 2, 3, 0] rfl) kk1
      · refine lv_aload_n hx hb dX0_takeOut_138 rfl (lv_at hl 0 rfl) ?_
        refine xg_sc hC hw dX0_takeOut_139 ?_
        refine lv_iload hx hb dX0_takeOut_142 (lv_at hl 3 rfl) ?_
        refine lv_iconst (v := (nI 0)) hx hb dX0_takeOut_144 (by decide) ?_
        refine xs_sc hC hw (by omega) dX0_takeOut_145 (fun H locs hw => ?_)
        rw [← pp_cls_s sc r i h2] at hw
        refine lv_aload_n hx hb dX0_takeOut_146 rfl (lv_at hl 0 rfl) ?_
        refine xg_ce hC hw dX0_takeOut_147 ?_
        refine lv_aload_n hx hb dX0_takeOut_150 rfl (lv_at hl 0 rfl) ?_
        refine xg_bg hC hw dX0_takeOut_151 ?_
        refine lv_iload hx hb dX0_takeOut_154 (lv_at hl 3 rfl) ?_
        refine xl_bg hC hw (by omega) dX0_takeOut_156 ?_
        refine lv_lconst (v := 1) hx hb dX0_takeOut_157 (by decide) ?_
        refine xs_ce hC hw (hs i h1).2 dX0_takeOut_158 (fun H locs hw => ?_)
        rw [show vp_updL (pp_clc sc bg r ce i) (bg i) 1 = pp_clc sc bg r ce (i + 1) from by rw [pp_clc, if_pos h2]] at hw
        refine lv_iinc (v := (nI (i + 1))) (lv' := [(7, .int (nI (i + 1))), (0, .ref (ad 0)), (1, .int (nI r)), (3, .int (nI en))]) hx hb dX0_takeOut_159 hl (k := 3) rfl (pn_inc _) (by decide) rfl (fun ls hl => ?_)
        refine lv_goto (tgt := 117) hx hb dX0_takeOut_162 (by decide) ?_
        exact ih (en - (i + 1)) (by omega) (i + 1) ls H locs rfl (by omega) hw (lv_sub hl [1, 2, 3, 0] rfl) kk1
end PL_takeOutB
set_option maxHeartbeats 4000000 in
set_option maxRecDepth 100000 in
theorem mX_takeOut (l : Launch) (D : va_G) (dA dL : ClassId) (ad : Nat → Nat) (cn qq : Nat) (mq fq sn al : Nat → Nat) (ow tb us : Nat) (sc bg : Nat → Nat) (ce : Nat → Int64) (ge : Nat → Nat) (r : Nat) (S : Nat) (hSe : pp_ar sc r tb = S) (hp : r < 7) (htb : tb < 16) (hs : ∀ t, t < tb → sc t < 128 ∧ bg t + 3 ^ pp_sz (sc t) 7 ≤ us) (hus : us + 3 ^ pp_sz S 7 ≤ 1320) (hG : pp_G ge) : Met l yX0_takeOut (ws_ yX0_takeOut cX0_takeOut 13 none) ({ frames := 2, cells := 0, slots := 0, locals := 49 } : Room) (pp_Pc D dA dL (pp_WX dA dL ad cn qq mq fq sn al ow tb us sc bg ce ge) [.ref (ad 0), .int (nI r)]) (va_Qv (fun (u : Nat → Nat) => pp_G u) (fun u t => va_P D vwCl ((fun (u : Nat → Nat) => pp_WX dA dL ad cn qq mq fq sn al ow (tb + 1) (us + 3 ^ pp_sz S 7) (pp_cls (va_up sc tb S) r tb) (va_up bg tb us) (pp_clc (va_up sc tb S) (va_up bg tb us) r (pp_fill ce us (pp_YT sc bg ce r tb S) (3 ^ pp_sz S 7)) tb) u) u) t.heap) (pp_AX ad)) 0 0 (pp_AX ad) := by
  refine pp_ofX (by decide) rfl (Nat.le_of_ble_eq_true rfl) ?_
  intro p e s m below meth c ls hC hr hlocks hw hl
  have hx := hC.1.1
  have hb := hC.1.2.1
  have hl : lv_has ls 13 [(0, .ref (ad 0)), (1, .int (nI r))] := hl
  have hR : pp_RM ({ frames := 2, cells := 0, slots := 0, locals := 49 } : Room) 0 0 2 49 := ⟨Nat.le_of_ble_eq_true rfl, Nat.le_of_ble_eq_true rfl, Nat.le_of_ble_eq_true rfl, Nat.le_of_ble_eq_true rfl⟩
  have hSl : S < 128 := by rw [← hSe]; exact pp_ar_lt r (fun t ht => (hs t ht).1)
  have hc1 : ∀ t, t < tb → va_up sc tb S t = sc t := fun t ht => pp_up_ne _ _ (by omega)
  have hg1 : ∀ t, t < tb → va_up bg tb us t = bg t := fun t ht => pp_up_ne _ _ (by omega)
  have hor : ∀ n, n ≤ tb → pp_orr (va_up sc tb S) r n = pp_orr sc r n := by
    intro n
    induction n with
    | zero => intro _; rfl
    | succ n ih => intro hn; rw [pp_orr, pp_orr, hc1 n (by omega), ih (by omega)]
  have hSe2 : pp_ar (va_up sc tb S) r tb = S := by rw [pp_ar, hor tb (Nat.le_refl tb)]; exact hSe
  have hYe : pp_YT (va_up sc tb S) (va_up bg tb us) ce r tb S = pp_YT sc bg ce r tb S := by
    funext k
    unfold pp_YT pp_Y
    rw [pp_pp_congr (sc := sc) (bg := bg) (ce := ce) tb (fun t ht => ⟨hc1 t ht, hg1 t ht⟩) (fun _ _ _ => rfl), pp_pp_congr (sc := sc) (bg := bg) (ce := ce) tb (fun t ht => ⟨hc1 t ht, hg1 t ht⟩) (fun _ _ _ => rfl), pp_pp_congr (sc := sc) (bg := bg) (ce := ce) tb (fun t ht => ⟨hc1 t ht, hg1 t ht⟩) (fun _ _ _ => rfl)]
  have hs1 : ∀ t, t < tb → va_up sc tb S t < 128 ∧ va_up bg tb us t + 3 ^ pp_sz (va_up sc tb S t) 7 ≤ us := fun t ht => by rw [hc1 t ht, hg1 t ht]; exact hs t ht
  have hs2 : ∀ t, t < tb → va_up sc tb S t < 128 ∧ va_up bg tb us t < 1320 := fun t ht => ⟨(hs1 t ht).1, by have h1 := (hs1 t ht).2; have h2 := pp_pow3_pos (pp_sz (va_up sc tb S t) 7); have h3 := pp_pow3_pos (pp_sz S 7); omega⟩
  refine lv_aload_n hx hb dX0_takeOut_0 rfl (lv_at hl 0 rfl) ?_
  refine lv_iload_n hx hb dX0_takeOut_1 rfl (lv_at hl 1 rfl) ?_
  refine xc_around  hC hw hp (by omega) (fun t ht => (hs t ht).1) (hR.le (by decide) (by decide)) hl.1 (Nat.le_of_ble_eq_true rfl) dX0_takeOut_2 ?_
  refine nr_top (y := (nI S)) (by rw [hSe]) ?_
  refine lv_istore_n (lv' := [(2, .int (nI S)), (0, .ref (ad 0)), (1, .int (nI r))]) hx hb dX0_takeOut_5 rfl hl (by decide) rfl (fun ls hl => ?_)
  refine lv_aload_n hx hb dX0_takeOut_6 rfl (lv_at hl 1 rfl) ?_
  refine xg_tb hC hw dX0_takeOut_7 ?_
  refine lv_istore_n (lv' := [(3, .int (nI tb)), (2, .int (nI S)), (0, .ref (ad 0)), (1, .int (nI r))]) hx hb dX0_takeOut_10 rfl hl (by decide) rfl (fun ls hl => ?_)
  refine lv_aload_n hx hb dX0_takeOut_11 rfl (lv_at hl 2 rfl) ?_
  refine lv_iload_n hx hb dX0_takeOut_12 rfl (lv_at hl 1 rfl) ?_
  refine xc_openTable  hC hw hSl htb (Nat.le_trans (Nat.le_add_right _ _) hus) (hR.le (by decide) (by decide)) hl.1 (Nat.le_of_ble_eq_true rfl) dX0_takeOut_13 (fun H locs hw hk => ?_)
  refine lv_istore (lv' := [(4, .int (nI tb)), (3, .int (nI tb)), (2, .int (nI S)), (0, .ref (ad 0)), (1, .int (nI r))]) hx hb dX0_takeOut_16 hl (by decide) rfl (fun ls hl => ?_)
  refine lv_aload_n hx hb dX0_takeOut_18 rfl (lv_at hl 3 rfl) ?_
  refine lv_iload_n hx hb dX0_takeOut_19 rfl (lv_at hl 2 rfl) ?_
  refine xc_sizeOf  hC hw hSl (hR.le (by decide) (by decide)) hl.1 (Nat.le_of_ble_eq_true rfl) dX0_takeOut_20 ?_
  refine lv_istore (lv' := [(5, .int (nI (pp_sz S 7))), (4, .int (nI tb)), (3, .int (nI tb)), (2, .int (nI S)), (0, .ref (ad 0)), (1, .int (nI r))]) hx hb dX0_takeOut_23 hl (by decide) rfl (fun ls hl => ?_)
  refine lv_aload_n hx hb dX0_takeOut_25 rfl (lv_at hl 4 rfl) ?_
  refine lv_iload hx hb dX0_takeOut_26 (lv_at hl 0 rfl) ?_
  refine xc_power  hC hw (pp_sz_le _ 7) (hR.le (by decide) (by decide)) hl.1 (Nat.le_of_ble_eq_true rfl) dX0_takeOut_28 ?_
  refine lv_istore (lv' := [(6, .int (nI (3 ^ pp_sz S 7))), (5, .int (nI (pp_sz S 7))), (4, .int (nI tb)), (3, .int (nI tb)), (2, .int (nI S)), (0, .ref (ad 0)), (1, .int (nI r))]) hx hb dX0_takeOut_31 hl (by decide) rfl (fun ls hl => ?_)
  refine lv_iconst (v := (nI 0)) hx hb dX0_takeOut_33 (by decide) ?_
  refine lv_istore (lv' := [(7, .int (nI 0)), (6, .int (nI (3 ^ pp_sz S 7))), (5, .int (nI (pp_sz S 7))), (4, .int (nI tb)), (3, .int (nI tb)), (2, .int (nI S)), (0, .ref (ad 0)), (1, .int (nI r))]) hx hb dX0_takeOut_34 hl (by decide) rfl (fun ls hl => ?_)
  refine lX_takeA (ce := ce) hC hR hSe2 hSl hp htb (pp_up_self bg tb us) hs1 hus _ 0 ge ls H locs rfl (Nat.zero_le _) hG hw (lv_sub hl [6, 7, 5, 4, 3, 2, 1, 0] rfl) (fun gg hgg ls H locs hw hl => ?_)
  rw [hYe] at hw
  refine lv_iconst (v := (nI 0)) hx hb dX0_takeOut_114 (by decide) ?_
  refine lv_istore (lv' := [(7, .int (nI 0)), (0, .ref (ad 0)), (1, .int (nI r)), (2, .int (nI S)), (3, .int (nI tb)), (4, .int (nI tb)), (5, .int (nI (pp_sz S 7))), (6, .int (nI (3 ^ pp_sz S 7)))]) hx hb dX0_takeOut_115 hl (by decide) rfl (fun ls hl => ?_)
  refine lX_takeB (sc := va_up sc tb S) (bg := va_up bg tb us) hC hp htb hs2 tb 0 ls H locs rfl (Nat.zero_le tb) (by rw [pp_cls_0]; exact hw) (lv_sub hl [1, 2, 4, 0] rfl) (fun ls H locs hw hl => ?_)
  exact pp_rQ_v (F := fun (u : Nat → Nat) => pp_WX dA dL ad cn qq mq fq sn al ow (tb + 1) (us + 3 ^ pp_sz S 7) (pp_cls (va_up sc tb S) r tb) (va_up bg tb us) (pp_clc (va_up sc tb S) (va_up bg tb us) r (pp_fill ce us (pp_YT sc bg ce r tb S) (3 ^ pp_sz S 7)) tb) u) hx hb hr hlocks dX0_takeOut_165 gg hgg hw.1 hw.2.2
section PC_X_takeOut
variable {p : Program} {l : Launch} {e : Env} {R : Room} {s : State} {m : MethodId} {args : Array Value} {below : List Frame} {meth : Method} {c : Code} {H : Heap} {locs : List Loc} {cells slots : Nat} {Q : State → Prop}
variable {cc : ByteArray} {pc nL : Nat} {ls : Array Slot} {rest : List Value}
variable {D : va_G} {dA dL : ClassId} {ad : Nat → Nat} {A : Nat → Prop} {H0 : Heap} {cn qq : Nat} {mq fq sn al : Nat → Nat} {ow tb us : Nat} {sc bg : Nat → Nat} {ce : Nat → Int64} {ge : Nat → Nat}
set_option maxRecDepth 100000 in
theorem xc_takeOut (hC : pp_CX p m c cc nL s args RX0 D dA dL) (hw : pp_IX D dA dL ad A H0 cn qq mq fq sn al ow tb us sc bg ce ge H locs) {r : Nat} {S : Nat} (hSe : pp_ar sc r tb = S) (hp : r < 7) (htb : tb < 16) (hs : ∀ t, t < tb → sc t < 128 ∧ bg t + 3 ^ pp_sz (sc t) 7 ≤ us) (hus : us + 3 ^ pp_sz S 7 ≤ 1320) (hG : pp_G ge) (hR : pp_RM R cells slots 3 81) (hsz : ls.size = nL) (hrest : (rest.map fun v => v.category).sum ≤ 8) (hdg : decode cc pc = .ok (.invokevirtual 105, 3)) (kk : ∀ (u : Nat → Nat) (H1 : Heap) (locs1 : List Loc), (fun (u : Nat → Nat) => pp_G u) u → pp_IX D dA dL ad A H0 cn qq mq fq sn al ow (tb + 1) (us + 3 ^ pp_sz S 7) (pp_cls (va_up sc tb S) r tb) (va_up bg tb us) (pp_clc (va_up sc tb S) (va_up bg tb us) r (pp_fill ce us (pp_YT sc bg ce r tb S) (3 ^ pp_sz S 7)) tb) u H1 locs1 → (∀ q : Nat, q < H.size → ¬ pp_AX ad q → H1[q]? = H[q]?) → W p l e R s m args below meth c H1 locs1 cells slots Q (F0 m (pc + 3) ls rest)) : W p l e R s m args below meth c H locs cells slots Q (F0 m pc ls (.int (nI r) :: .ref (ad 0) :: rest)) := pp_cQ_v (n := 1) (F := fun (u : Nat → Nat) => pp_WX dA dL ad cn qq mq fq sn al ow (tb + 1) (us + 3 ^ pp_sz S 7) (pp_cls (va_up sc tb S) r tb) (va_up bg tb us) (pp_clc (va_up sc tb S) (va_up bg tb us) r (pp_fill ce us (pp_YT sc bg ce r tb S) (3 ^ pp_sz S 7)) tb) u) hC hw.1 hw.2.1 hw.2.2 (mX_takeOut l D dA dL ad cn qq mq fq sn al ow tb us sc bg ce ge r S hSe hp htb hs hus hG) (pp_D_all hw.2.1 rfl) (lw_V q174 q176 qs15 q30 q177) (by decide +kernel) rfl rfl rfl hR (va_recv hC.2 hw.1 (ci := 0) (q0 := 0) rfl rfl) hsz hrest hdg rfl (fun u H1 l1 h hP hS hk => kk u H1 l1 h ⟨hP, pp_D_addr hw.2.1 rfl, hS⟩ hk)
end PC_X_takeOut
end
section
def pp_tot (cn qq : Nat) (mq fq sn al : Nat → Nat) (ow : Nat) : Int64 := pp_sum (2 ^ cn - 1) cn (fun a => pp_prod (fun t => pp_xf qq mq fq sn al ow t a) cn) (fun _ => 0)
theorem pp_par {cn qq : Nat} {mq fq sn : Nat → Nat} (h : pp_ok cn qq mq fq sn) {p : Nat} (hp : p < cn) : mq p ≤ p ∧ fq p ≤ p ∧ (mq p ≠ 0 → fq p ≠ 0) := by
  have h1 := h.2.2.2 p hp
  omega
theorem pp_ea_bq {T n bq lst : Nat} (h : pp_ea T n bq lst) : bq ≤ n := by
  rcases h with h | h
  · omega
  · exact h.2.1
theorem pp_ea_some {T n bq lst : Nat} (h : pp_ea T n bq lst) (h0 : bq ≠ 0) : bq - 1 < n ∧ pp_bt T (bq - 1) = 1 := by
  rcases h with h | h
  · exact absurd h.1 h0
  · exact ⟨by omega, h.2.2.1⟩
theorem pp_sz_no {T : Nat} : ∀ n, (∀ q, q < n → pp_bt T q = 0) → pp_sz T n = 0
  | 0, _ => rfl
  | n + 1, h => by rw [pp_sz, pp_sz_no n (fun q hq => h q (by omega)), h n (by omega)]
theorem pp_clr_imp {S p q : Nat} (h : S < 128) (hp : p < 7) (hb : pp_bt S p = 1) (hq : pp_bt (pp_clr S p) q = 1) : pp_bt S q = 1 := by
  by_cases e : q = p
  · rw [e]; exact hb
  · rw [← pp_clr_ne h hp e]; exact hq
theorem pp_ea_none {T n bq lst : Nat} (h : pp_ea T n bq lst) (h0 : bq = 0) (hT : ∀ q, pp_bt T q = 1 → q < n) : pp_sz T 7 = 0 := by
  rcases h with h | h
  · refine pp_sz_no 7 (fun q _ => ?_)
    rcases pp_bt_01 T q with e | e
    · exact e
    · exact h.2.2 q (hT q e)
  · omega
section PL_sumA
variable {p : Program} {l : Launch} {e : Env} {R : Room} {s : State} {m : MethodId} {args : Array Value} {below : List Frame} {meth : Method} {c : Code} {H : Heap} {locs : List Loc} {cells slots : Nat} {Q : State → Prop}
variable {cc : ByteArray} {pc nL : Nat} {ls : Array Slot} {rest : List Value}
variable {D : va_G} {dA dL : ClassId} {ad : Nat → Nat} {A : Nat → Prop} {H0 : Heap} {cn qq : Nat} {mq fq sn al : Nat → Nat} {ow tb us : Nat} {sc bg : Nat → Nat} {ce : Nat → Int64} {ge : Nat → Nat}
set_option maxHeartbeats 4000000 in
set_option maxRecDepth 100000 in
theorem lX_sumA (hC : pp_CX p m c cX0_sum 5 s args RX0 D dA dL) (hR : pp_RM R cells slots 3 81) (hok : pp_ok cn qq mq fq sn) (hal : ∀ p, p < 7 → al p < 8) (how : ow < 2) : ∀ (n : Nat) (i us1 : Nat) (sc1 bg1 : Nat → Nat) (ce1 : Nat → Int64) (ge1 : Nat → Nat) (ls : Array Slot) (H : Heap) (locs : List Loc), cn - i = n → i ≤ cn → pp_TB (pp_xf qq mq fq sn al ow) (pp_set mq fq) i us1 sc1 bg1 ce1 → pp_G ge1 → pp_IX D dA dL ad A H0 cn qq mq fq sn al ow i us1 sc1 bg1 ce1 ge1 H locs → lv_has ls 5 [(0, .ref (ad 0)), (1, .int (nI i))] → (∀ (us1 : Nat) (sc1 bg1 : Nat → Nat) (ce1 : Nat → Int64) (ge1 : Nat → Nat) (_ : pp_TB (pp_xf qq mq fq sn al ow) (pp_set mq fq) cn us1 sc1 bg1 ce1) (_ : pp_G ge1) (ls : Array Slot) (H : Heap) (locs : List Loc), pp_IX D dA dL ad A H0 cn qq mq fq sn al ow cn us1 sc1 bg1 ce1 ge1 H locs → lv_has ls 5 [(0, .ref (ad 0)), (1, .int (nI cn))] → W p l e R s m args below meth c H locs cells slots Q (F0 m 31 ls [])) → W p l e R s m args below meth c H locs cells slots Q (F0 m 12 ls []) := by
  have hx := hC.1.1
  have hb := hC.1.2.1
  intro n
  induction n using Nat.strongRecOn with
  | ind n ih =>
    intro i us1 sc1 bg1 ce1 ge1 ls H locs hn g1 g2 g3 hw hl kk1
    refine lv_iload_n hx hb dX0_sum_12 rfl (lv_at hl 1 rfl) ?_
    refine lv_aload_n hx hb dX0_sum_13 rfl (lv_at hl 0 rfl) ?_
    refine xg_cn hC hw dX0_sum_14 ?_
    refine nr_ge (tgt := 31) hx hb dX0_sum_17 (by decide) (by have := hok.1; omega) (by have := hok.1; omega) (fun h1 => ?_) (fun h1 => ?_)
    · obtain rfl : i = cn := by omega
      exact kk1 us1 sc1 bg1 ce1 ge1 g2 g3 ls H locs hw hl
    · refine lv_aload_n hx hb dX0_sum_20 rfl (lv_at hl 0 rfl) ?_
      refine lv_iload_n hx hb dX0_sum_21 rfl (lv_at hl 1 rfl) ?_
      have hpp := pp_par hok h1
      have hcn := hok.1
      have h27 : 3 ^ pp_sz (pp_set mq fq i) 7 ≤ 3 ^ 3 := Nat.pow_le_pow_right (by decide) (pp_set_sz (by omega) hpp.1 hpp.2.1)
      have hu27 := g2.1
      refine xc_personTable hC hw (by omega) hok.2.1 hok.2.2.1 hpp.1 hpp.2.1 hpp.2.2 g3 (hal i (by omega)) how (by omega) (by omega) (hR.le (by decide) (by decide)) hl.1 (Nat.le_of_ble_eq_true rfl) dX0_sum_22 (fun u H locs hu hw hk => ?_)
      refine lv_iinc (v := (nI (i + 1))) (lv' := [(1, .int (nI (i + 1))), (0, .ref (ad 0))]) hx hb dX0_sum_25 hl (k := 1) rfl (pn_inc _) (by decide) rfl (fun ls hl => ?_)
      refine lv_goto (tgt := 12) hx hb dX0_sum_28 (by decide) ?_
      exact ih (cn - (i + 1)) (by omega) (i + 1) _ _ _ _ u ls H locs rfl (by omega) (pp_TB_s g2 (pp_set_sz (by omega) hpp.1 hpp.2.1) (pp_set_lt (by omega) hpp.1 hpp.2.1) (fun a b h => pp_xf_congr h)) hu hw (lv_sub hl [1, 0] rfl) kk1
end PL_sumA
section PL_sumB
variable {p : Program} {l : Launch} {e : Env} {R : Room} {s : State} {m : MethodId} {args : Array Value} {below : List Frame} {meth : Method} {c : Code} {H : Heap} {locs : List Loc} {cells slots : Nat} {Q : State → Prop}
variable {cc : ByteArray} {pc nL : Nat} {ls : Array Slot} {rest : List Value}
variable {D : va_G} {dA dL : ClassId} {ad : Nat → Nat} {A : Nat → Prop} {H0 : Heap} {cn qq : Nat} {mq fq sn al : Nat → Nat} {ow tb us : Nat} {sc bg : Nat → Nat} {ce : Nat → Int64} {ge : Nat → Nat}
set_option maxHeartbeats 4000000 in
set_option maxRecDepth 100000 in
theorem lX_sumB (hC : pp_CX p m c cX0_sum 5 s args RX0 D dA dL) (hR : pp_RM R cells slots 3 81) (hcn : cn ≤ 7) {tt : Int64} : ∀ (n : Nat) (i Lf tb1 us1 : Nat) (sc1 bg1 : Nat → Nat) (ce1 : Nat → Int64) (ge1 : Nat → Nat) (ls : Array Slot) (H : Heap) (locs : List Loc), cn - i = n → i ≤ cn → Lf < 128 → pp_TI cn Lf tb1 us1 sc1 bg1 ce1 tt → pp_sz Lf 7 = cn - i → (∀ q, pp_bt Lf q = 1 → q < cn) → pp_G ge1 → pp_IX D dA dL ad A H0 cn qq mq fq sn al ow tb1 us1 sc1 bg1 ce1 ge1 H locs → lv_has ls 5 [(0, .ref (ad 0)), (1, .int (nI Lf)), (2, .int (nI i))] → (∀ (Lf tb1 us1 : Nat) (sc1 bg1 : Nat → Nat) (ce1 : Nat → Int64) (ge1 : Nat → Nat) (_ : Lf < 128) (_ : pp_TI cn Lf tb1 us1 sc1 bg1 ce1 tt) (_ : pp_sz Lf 7 = 0) (_ : pp_G ge1) (ls : Array Slot) (H : Heap) (locs : List Loc), pp_IX D dA dL ad A H0 cn qq mq fq sn al ow tb1 us1 sc1 bg1 ce1 ge1 H locs → lv_has ls 5 [(0, .ref (ad 0)), (1, .int (nI Lf)), (2, .int (nI cn))] → W p l e R s m args below meth c H locs cells slots Q (F0 m 79 ls [])) → W p l e R s m args below meth c H locs cells slots Q (F0 m 42 ls []) := by
  have hx := hC.1.1
  have hb := hC.1.2.1
  intro n
  induction n using Nat.strongRecOn with
  | ind n ih =>
    intro i Lf tb1 us1 sc1 bg1 ce1 ge1 ls H locs hn g1 g2 g3 g4 g5 g6 hw hl kk1
    refine lv_iload_n hx hb dX0_sum_42 rfl (lv_at hl 2 rfl) ?_
    refine lv_aload_n hx hb dX0_sum_43 rfl (lv_at hl 0 rfl) ?_
    refine xg_cn hC hw dX0_sum_44 ?_
    refine nr_ge (tgt := 79) hx hb dX0_sum_47 (by decide) (by omega) (by omega) (fun h1 => ?_) (fun h1 => ?_)
    · obtain rfl : i = cn := by omega
      exact kk1 Lf tb1 us1 sc1 bg1 ce1 ge1 g2 g3 (by omega) g6 ls H locs hw hl
    · refine lv_aload_n hx hb dX0_sum_50 rfl (lv_at hl 0 rfl) ?_
      refine lv_iload_n hx hb dX0_sum_51 rfl (lv_at hl 1 rfl) ?_
      have htb := g3.2.2.2.1
      refine xc_easiest hC hw g2 hcn (by omega) (fun t ht => (g3.1 t ht).1) (hR.le (by decide) (by decide)) hl.1 (Nat.le_of_ble_eq_true rfl) dX0_sum_52 (fun r hr => ?_)
      obtain ⟨bq, lst, rfl, hea⟩ := hr
      refine lv_istore_n (lv' := [(3, .int (nI bq - 1)), (0, .ref (ad 0)), (1, .int (nI Lf)), (2, .int (nI i))]) hx hb dX0_sum_55 rfl hl (by decide) rfl (fun ls hl => ?_)
      refine lv_iload_n hx hb dX0_sum_56 rfl (lv_at hl 0 rfl) ?_
      refine nr_m_lt (tgt := 73) hx hb dX0_sum_57 (by decide) (by have := pp_ea_bq hea; omega) (fun h2 => ?_) (fun h2 => ?_)
      · exact absurd (pp_ea_none hea h2 g5) (by omega)
      · rw [pn_m h2] at hl
        refine lv_aload_n hx hb dX0_sum_60 rfl (lv_at hl 1 rfl) ?_
        refine lv_iload_n hx hb dX0_sum_61 rfl (lv_at hl 0 rfl) ?_
        have hbq := pp_ea_some hea h2
        have hT2 := pp_TI_out g3 hcn g2 hbq.1 hbq.2
        have hus := Nat.le_trans (Nat.le_add_right _ _) hT2.2.2.1
        refine xc_takeOut hC hw rfl (by omega) (by omega) (fun t ht => ⟨(g3.1 t ht).1, (g3.1 t ht).2.2⟩) hus g6 (hR.le (by decide) (by decide)) hl.1 (Nat.le_of_ble_eq_true rfl) dX0_sum_62 (fun u H locs hu hw hk => ?_)
        refine lv_iload_n hx hb dX0_sum_65 rfl (lv_at hl 2 rfl) ?_
        refine lv_iconst (v := (nI 1)) hx hb dX0_sum_66 (by decide) ?_
        refine lv_iload_n hx hb dX0_sum_67 rfl (lv_at hl 0 rfl) ?_
        refine nr_shl1 hx hb (by omega) dX0_sum_68 ?_
        refine lv_iconst (v := (-1)) hx hb dX0_sum_69 (by decide) ?_
        refine lv_ixor hx hb dX0_sum_70 ?_
        refine nr_clr hx hb g2 (by omega) dX0_sum_71 ?_
        refine lv_istore_n (lv' := [(1, .int (nI (pp_clr Lf (bq - 1)))), (3, .int (nI (bq - 1))), (0, .ref (ad 0)), (2, .int (nI i))]) hx hb dX0_sum_72 rfl hl (by decide) rfl (fun ls hl => ?_)
        refine lv_iinc (v := (nI (i + 1))) (lv' := [(2, .int (nI (i + 1))), (1, .int (nI (pp_clr Lf (bq - 1)))), (3, .int (nI (bq - 1))), (0, .ref (ad 0))]) hx hb dX0_sum_73 hl (k := 3) rfl (pn_inc _) (by decide) rfl (fun ls hl => ?_)
        refine lv_goto (tgt := 42) hx hb dX0_sum_76 (by decide) ?_
        exact ih (cn - (i + 1)) (by omega) (i + 1) (pp_clr Lf (bq - 1)) _ _ _ _ _ u ls H locs rfl (by omega) (pp_clr_lt _ g2) hT2 (by have := pp_clr_sz g2 (by omega) hbq.2; omega) (fun q hq => g5 q (pp_clr_imp g2 (by omega) hbq.2 hq)) hu hw (lv_sub hl [3, 1, 0] rfl) kk1
end PL_sumB
section PL_sumC
variable {p : Program} {l : Launch} {e : Env} {R : Room} {s : State} {m : MethodId} {args : Array Value} {below : List Frame} {meth : Method} {c : Code} {H : Heap} {locs : List Loc} {cells slots : Nat} {Q : State → Prop}
variable {cc : ByteArray} {pc nL : Nat} {ls : Array Slot} {rest : List Value}
variable {D : va_G} {dA dL : ClassId} {ad : Nat → Nat} {A : Nat → Prop} {H0 : Heap} {cn qq : Nat} {mq fq sn al : Nat → Nat} {ow tb us : Nat} {sc bg : Nat → Nat} {ce : Nat → Int64} {ge : Nat → Nat}
set_option maxHeartbeats 4000000 in
set_option maxRecDepth 100000 in
theorem lX_sumC (hC : pp_CX p m c cX0_sum 5 s args RX0 D dA dL) (hw : pp_IX D dA dL ad A H0 cn qq mq fq sn al ow tb us sc bg ce ge H locs) (htb : tb ≤ 16) (hbg : ∀ t, t < tb → bg t < 1320) : ∀ (n : Nat) (i : Nat) (ls : Array Slot), tb - i = n → i ≤ tb → lv_has ls 5 [(0, .ref (ad 0)), (2, .long (pp_prod (fun t => ce (bg t)) i)), (4, .int (nI i))] → (∀ (ls : Array Slot), lv_has ls 5 [(0, .ref (ad 0)), (2, .long (pp_prod (fun t => ce (bg t)) tb)), (4, .int (nI tb))] → W p l e R s m args below meth c H locs cells slots Q (F0 m 114 ls [])) → W p l e R s m args below meth c H locs cells slots Q (F0 m 84 ls []) := by
  have hx := hC.1.1
  have hb := hC.1.2.1
  intro n
  induction n using Nat.strongRecOn with
  | ind n ih =>
    intro i ls hn g1 hl kk1
    refine lv_iload hx hb dX0_sum_84 (lv_at hl 2 rfl) ?_
    refine lv_aload_n hx hb dX0_sum_86 rfl (lv_at hl 0 rfl) ?_
    refine xg_tb hC hw dX0_sum_87 ?_
    refine nr_ge (tgt := 114) hx hb dX0_sum_90 (by decide) (by omega) (by omega) (fun h1 => ?_) (fun h1 => ?_)
    · obtain rfl : i = tb := by omega
      exact kk1 ls hl
    · refine lv_lload_n hx hb dX0_sum_93 rfl (lv_at hl 1 rfl) ?_
      refine lv_aload_n hx hb dX0_sum_94 rfl (lv_at hl 0 rfl) ?_
      refine xg_ce hC hw dX0_sum_95 ?_
      refine lv_aload_n hx hb dX0_sum_98 rfl (lv_at hl 0 rfl) ?_
      refine xg_bg hC hw dX0_sum_99 ?_
      refine lv_iload hx hb dX0_sum_102 (lv_at hl 2 rfl) ?_
      refine xl_bg hC hw (by omega) dX0_sum_104 ?_
      refine xl_ce hC hw (hbg i h1) dX0_sum_105 ?_
      refine lv_lmul hx hb dX0_sum_106 ?_
      refine nr_topl (y := (pp_prod (fun t => ce (bg t)) (i + 1))) (by rw [pp_prod]) ?_
      refine lv_lstore_n (lv' := [(2, .long (pp_prod (fun t => ce (bg t)) (i + 1))), (0, .ref (ad 0)), (4, .int (nI i))]) hx hb dX0_sum_107 rfl hl (by decide) rfl (fun ls hl => ?_)
      refine lv_iinc (v := (nI (i + 1))) (lv' := [(4, .int (nI (i + 1))), (2, .long (pp_prod (fun t => ce (bg t)) (i + 1))), (0, .ref (ad 0))]) hx hb dX0_sum_108 hl (k := 2) rfl (pn_inc _) (by decide) rfl (fun ls hl => ?_)
      refine lv_goto (tgt := 84) hx hb dX0_sum_111 (by decide) ?_
      exact ih (tb - (i + 1)) (by omega) (i + 1) ls rfl (by omega) (lv_sub hl [2, 1, 0] rfl) kk1
end PL_sumC
set_option maxHeartbeats 4000000 in
set_option maxRecDepth 100000 in
theorem mX_sum (l : Launch) (D : va_G) (dA dL : ClassId) (ad : Nat → Nat) (cn qq : Nat) (mq fq sn al : Nat → Nat) (ow tb us : Nat) (sc bg : Nat → Nat) (ce : Nat → Int64) (ge : Nat → Nat) (hok : pp_ok cn qq mq fq sn) (hal : ∀ p, p < 7 → al p < 8) (how : ow < 2) (hG : pp_G ge) : Met l yX0_sum (ws_ yX0_sum cX0_sum 5 (some .long)) ({ frames := 3, cells := 0, slots := 0, locals := 81 } : Room) (pp_Pc D dA dL (pp_WX dA dL ad cn qq mq fq sn al ow tb us sc bg ce ge) [.ref (ad 0)]) (va_Ql (fun (z0 : Int64) (u : Nat × Nat × (Nat → Nat) × (Nat → Nat) × (Nat → Int64) × (Nat → Nat)) => z0 = pp_tot cn qq mq fq sn al ow ∧ pp_G u.2.2.2.2.2) (fun u t => va_P D vwCl ((fun (u : Nat × Nat × (Nat → Nat) × (Nat → Nat) × (Nat → Int64) × (Nat → Nat)) => pp_WX dA dL ad cn qq mq fq sn al ow (u.1) (u.2.1) (u.2.2.1) (u.2.2.2.1) (u.2.2.2.2.1) (u.2.2.2.2.2)) u) t.heap) (pp_AX ad)) 0 0 (pp_AX ad) := by
  refine pp_ofX (by decide) rfl (Nat.le_of_ble_eq_true rfl) ?_
  intro p e s m below meth c ls hC hr hlocks hw hl
  have hx := hC.1.1
  have hb := hC.1.2.1
  have hl : lv_has ls 5 [(0, .ref (ad 0))] := hl
  have hR : pp_RM ({ frames := 3, cells := 0, slots := 0, locals := 81 } : Room) 0 0 3 81 := ⟨Nat.le_of_ble_eq_true rfl, Nat.le_of_ble_eq_true rfl, Nat.le_of_ble_eq_true rfl, Nat.le_of_ble_eq_true rfl⟩
  have hcn := hok.1
  have hfull := pp_full_sz cn (by omega)
  refine lv_aload_n hx hb dX0_sum_0 rfl (lv_at hl 0 rfl) ?_
  refine lv_iconst (v := (nI 0)) hx hb dX0_sum_1 (by decide) ?_
  refine xp_tb hC hw dX0_sum_2 (fun H locs hw => ?_)
  refine lv_aload_n hx hb dX0_sum_5 rfl (lv_at hl 0 rfl) ?_
  refine lv_iconst (v := (nI 0)) hx hb dX0_sum_6 (by decide) ?_
  refine xp_us hC hw dX0_sum_7 (fun H locs hw => ?_)
  refine lv_iconst (v := (nI 0)) hx hb dX0_sum_10 (by decide) ?_
  refine lv_istore_n (lv' := [(1, .int (nI 0)), (0, .ref (ad 0))]) hx hb dX0_sum_11 rfl hl (by decide) rfl (fun ls hl => ?_)
  refine lX_sumA hC hR hok hal how cn 0 0 sc bg ce ge ls H locs rfl (Nat.zero_le cn) (pp_TB_0 _ _ sc bg ce) hG hw (lv_sub hl [1, 0] rfl) (fun us1 sc1 bg1 ce1 ge1 hTB hG ls H locs hw hl => ?_)
  have hTI := pp_TI_of hTB hcn (fun t ht => ⟨pp_set_lt (by omega) (pp_par hok ht).1 (pp_par hok ht).2.1, fun q hq => pp_set_le (pp_par hok ht).1 (pp_par hok ht).2.1 hq⟩)
  refine lv_iconst (v := (nI 1)) hx hb dX0_sum_31 (by decide) ?_
  refine lv_aload_n hx hb dX0_sum_32 rfl (lv_at hl 0 rfl) ?_
  refine xg_cn hC hw dX0_sum_33 ?_
  refine nr_shl1 hx hb (by omega) dX0_sum_36 ?_
  refine lv_iconst (v := (nI 1)) hx hb dX0_sum_37 (by decide) ?_
  refine nr_sub hx hb Nat.one_le_two_pow dX0_sum_38 ?_
  refine lv_istore_n (lv' := [(1, .int (nI ((2 ^ cn) - 1))), (0, .ref (ad 0))]) hx hb dX0_sum_39 rfl hl (by decide) rfl (fun ls hl => ?_)
  refine lv_iconst (v := (nI 0)) hx hb dX0_sum_40 (by decide) ?_
  refine lv_istore_n (lv' := [(2, .int (nI 0)), (1, .int (nI ((2 ^ cn) - 1))), (0, .ref (ad 0))]) hx hb dX0_sum_41 rfl hl (by decide) rfl (fun ls hl => ?_)
  refine lX_sumB hC hR hcn cn 0 (2 ^ cn - 1) _ _ _ _ _ ge1 ls H locs rfl (Nat.zero_le cn) hfull.2 hTI hfull.1 (fun q hq => (pp_full_bt cn q).mp hq) hG hw (lv_sub hl [2, 1, 0] rfl) (fun Lf tb1 us1 sc1 bg1 ce1 ge1 hLf hTI hsz hG ls H locs hw hl => ?_)
  have hend := pp_TI_end hTI hcn hLf hsz
  have htb := hTI.2.2.2.1
  have hus := hTI.2.2.1
  refine lv_lconst (v := 1) hx hb dX0_sum_79 (by decide) ?_
  refine lv_lstore_n (lv' := [(2, .long 1), (0, .ref (ad 0)), (1, .int (nI Lf))]) hx hb dX0_sum_80 rfl hl (by decide) rfl (fun ls hl => ?_)
  refine lv_iconst (v := (nI 0)) hx hb dX0_sum_81 (by decide) ?_
  refine lv_istore (lv' := [(4, .int (nI 0)), (2, .long 1), (0, .ref (ad 0)), (1, .int (nI Lf))]) hx hb dX0_sum_82 hl (by decide) rfl (fun ls hl => ?_)
  refine lX_sumC hC hw (by omega) (fun t ht => by have h1 := (hTI.1 t ht).2.2; have h2 := pp_pow3_pos (pp_sz (sc1 t) 7); omega) tb1 0 ls rfl (Nat.zero_le tb1) (lv_sub hl [2, 1, 0] rfl) (fun ls hl => ?_)
  refine lv_lload_n hx hb dX0_sum_114 rfl (lv_at hl 1 rfl) ?_
  exact pp_rQ_l (F := fun (u : Nat × Nat × (Nat → Nat) × (Nat → Nat) × (Nat → Int64) × (Nat → Nat)) => pp_WX dA dL ad cn qq mq fq sn al ow (u.1) (u.2.1) (u.2.2.1) (u.2.2.2.1) (u.2.2.2.2.1) (u.2.2.2.2.2)) hx hb hr hlocks dX0_sum_115 (tb1, us1, sc1, bg1, ce1, ge1) ⟨hend, hG⟩ hw.1 hw.2.2
section PC_X_sum
variable {p : Program} {l : Launch} {e : Env} {R : Room} {s : State} {m : MethodId} {args : Array Value} {below : List Frame} {meth : Method} {c : Code} {H : Heap} {locs : List Loc} {cells slots : Nat} {Q : State → Prop}
variable {cc : ByteArray} {pc nL : Nat} {ls : Array Slot} {rest : List Value}
variable {D : va_G} {dA dL : ClassId} {ad : Nat → Nat} {A : Nat → Prop} {H0 : Heap} {cn qq : Nat} {mq fq sn al : Nat → Nat} {ow tb us : Nat} {sc bg : Nat → Nat} {ce : Nat → Int64} {ge : Nat → Nat}
set_option maxRecDepth 100000 in
theorem xc_sum (hC : pp_CX p m c cc nL s args RX0 D dA dL) (hw : pp_IX D dA dL ad A H0 cn qq mq fq sn al ow tb us sc bg ce ge H locs) (hok : pp_ok cn qq mq fq sn) (hal : ∀ p, p < 7 → al p < 8) (how : ow < 2) (hG : pp_G ge) (hR : pp_RM R cells slots 4 105) (hsz : ls.size = nL) (hrest : (rest.map fun v => v.category).sum ≤ 8) (hdg : decode cc pc = .ok (.invokevirtual 111, 3)) (kk : ∀ (r : Int64) (u : Nat × Nat × (Nat → Nat) × (Nat → Nat) × (Nat → Int64) × (Nat → Nat)) (H1 : Heap) (locs1 : List Loc), (fun (z0 : Int64) (u : Nat × Nat × (Nat → Nat) × (Nat → Nat) × (Nat → Int64) × (Nat → Nat)) => z0 = pp_tot cn qq mq fq sn al ow ∧ pp_G u.2.2.2.2.2) r u → pp_IX D dA dL ad A H0 cn qq mq fq sn al ow (u.1) (u.2.1) (u.2.2.1) (u.2.2.2.1) (u.2.2.2.2.1) (u.2.2.2.2.2) H1 locs1 → (∀ q : Nat, q < H.size → ¬ pp_AX ad q → H1[q]? = H[q]?) → W p l e R s m args below meth c H1 locs1 cells slots Q (F0 m (pc + 3) ls (.long r :: rest))) : W p l e R s m args below meth c H locs cells slots Q (F0 m pc ls (.ref (ad 0) :: rest)) := pp_cQ_l (n := 0) (F := fun (u : Nat × Nat × (Nat → Nat) × (Nat → Nat) × (Nat → Int64) × (Nat → Nat)) => pp_WX dA dL ad cn qq mq fq sn al ow (u.1) (u.2.1) (u.2.2.1) (u.2.2.2.1) (u.2.2.2.2.1) (u.2.2.2.2.2)) hC hw.1 hw.2.1 hw.2.2 (mX_sum l D dA dL ad cn qq mq fq sn al ow tb us sc bg ce ge hok hal how hG) (pp_D_all hw.2.1 rfl) (lw_V q130 q132 qs4 q30 q133) (by decide +kernel) rfl rfl rfl hR (va_recv hC.2 hw.1 (ci := 0) (q0 := 0) rfl rfl) hsz hrest hdg rfl (fun r u H1 l1 h hP hS hk => kk r u H1 l1 h ⟨hP, pp_D_addr hw.2.1 rfl, hS⟩ hk)
end PC_X_sum
end
section
/-! what the calls answer: one word for both classes -/
def pp_j (x : Int32) : Nat := x.toNatClampNeg
theorem pp_jI {x : Int32} (h : ¬ x < 0) : x = nI (pp_j x) := by
  obtain ⟨j, hj, rfl⟩ := nI_of h
  unfold pp_j
  rw [nI_clamp hj]
theorem pp_bad_lt (cn : Nat) (x : Int32) : pp_bad cn x < 2 := by unfold pp_bad; split <;> decide
theorem pp_bdg_lt (x : Int32) : pp_bdg x < 2 := by unfold pp_bdg; split <;> decide
theorem pp_bad_0 {cn : Nat} {x : Int32} (h : pp_bad cn x = 0) (hcn : cn ≤ 7) : x = nI (pp_j x) ∧ pp_j x < cn := by
  unfold pp_bad at h
  by_cases h1 : x < 0 ∨ ¬ x < nI cn
  · rw [if_pos h1] at h; exact absurd h (by decide)
  · have h0 : ¬ x < 0 := fun z => h1 (Or.inl z)
    have h2 : x < nI cn := Decidable.byContradiction fun z => h1 (Or.inr z)
    have e := pp_jI h0
    refine ⟨e, ?_⟩
    obtain ⟨j, hj, rfl⟩ := nI_of h0
    have h3 : pp_j (nI j) = j := nI_clamp hj
    rw [h3]
    exact (nI_ltI hj (by omega)).mp h2
theorem pp_bdg_0 {x : Int32} (h : pp_bdg x = 0) : x = nI (pp_j x) ∧ pp_j x < 3 := by
  unfold pp_bdg at h
  by_cases h1 : x < 0 ∨ ¬ x ≤ nI 2
  · rw [if_pos h1] at h; exact absurd h (by decide)
  · have h0 : ¬ x < 0 := fun z => h1 (Or.inl z)
    have h2 : x ≤ nI 2 := Decidable.byContradiction fun z => h1 (Or.inr z)
    have e := pp_jI h0
    refine ⟨e, ?_⟩
    obtain ⟨j, hj, rfl⟩ := nI_of h0
    have h3 : pp_j (nI j) = j := nI_clamp hj
    rw [h3]
    have := (nI_leI hj (by decide)).mp h2
    omega
theorem pp_jle {x : Int32} {n : Nat} (hn : n < 2 ^ 31) (h : ¬ x < 0) (h2 : x ≤ nI n) : pp_j x ≤ n := by
  obtain ⟨j, hj, rfl⟩ := nI_of h
  have h3 : pp_j (nI j) = j := nI_clamp hj
  rw [h3]
  exact (nI_leI hj hn).mp h2
/-- three sights of a new person -/
def pp_sn3 (sn : Nat → Nat) (c n : Nat) : Nat → Nat := fun k => if 3 * c ≤ k ∧ k < 3 * c + n then 1 else sn k
theorem pp_sn3_0 (sn : Nat → Nat) (c : Nat) : pp_sn3 sn c 0 = sn := by
  funext k
  unfold pp_sn3
  rw [if_neg (by omega)]
theorem pp_sn3_s (sn : Nat → Nat) (c n : Nat) : va_up (pp_sn3 sn c n) (3 * c + n) 1 = pp_sn3 sn c (n + 1) := by
  funext k
  by_cases h : k = 3 * c + n
  · subst h
    rw [pp_up_self]
    unfold pp_sn3
    rw [if_pos (by omega)]
  · rw [pp_up_ne _ _ h]
    unfold pp_sn3
    by_cases h2 : 3 * c ≤ k ∧ k < 3 * c + n
    · rw [if_pos h2, if_pos (by omega)]
    · rw [if_neg h2, if_neg (by omega)]
def pp_fadd (cn : Nat) (mq fq sn : Nat → Nat) (v1 v2 : Nat) : Int32 × Nat × (Nat → Nat) × (Nat → Nat) × (Nat → Nat) := if cn = 7 then (-2, cn, mq, fq, sn) else (nI cn, cn + 1, va_up mq cn v1, va_up fq cn v2, pp_sn3 sn cn 3)
def pp_fchild (cn : Nat) (mq fq sn : Nat → Nat) (x y : Int32) : Int32 × Nat × (Nat → Nat) × (Nat → Nat) × (Nat → Nat) := if pp_bad cn x = 0 ∧ pp_bad cn y = 0 ∧ ¬ x = y then pp_fadd cn mq fq sn (pp_j x + 1) (pp_j y + 1) else (-1, cn, mq, fq, sn)
def pp_frem (cn : Nat) : Int32 × Nat := if cn = 0 then (-1, cn) else (nI (cn - 1), cn - 1)
def pp_ffreq (qq : Nat) (x : Int32) : Int32 × Nat := if ¬ x < 0 ∧ x ≤ nI 16 then (nI qq, pp_j x) else (-1, qq)
def pp_fsee (cn : Nat) (sn : Nat → Nat) (x y z : Int32) : Int32 × (Nat → Nat) := if pp_bad cn x = 0 ∧ pp_bdg y = 0 ∧ ¬ z < 0 ∧ z ≤ nI 5 then (nI (sn (3 * pp_j x + pp_j y)), va_up sn (3 * pp_j x + pp_j y) (pp_j z)) else (-1, sn)
def pp_fseen (cn : Nat) (sn : Nat → Nat) (x y : Int32) : Int32 := if pp_bad cn x = 0 ∧ pp_bdg y = 0 then nI (sn (3 * pp_j x + pp_j y)) else -1
/-! the questions, as PedigreePeeling answers them -/
theorem pp_tot_congr {cn qq : Nat} {mq fq sn al al' : Nat → Nat} {ow : Nat} (h : ∀ t, t < cn → al t = al' t) : pp_tot cn qq mq fq sn al ow = pp_tot cn qq mq fq sn al' ow := by
  unfold pp_tot
  refine pp_sum_congr (fun a _ => pp_prod_congr cn (fun t ht => ?_)) cn _ pp_G_0
  unfold pp_xf
  rw [h t ht]
def pp_xlik (cn qq : Nat) (mq fq sn : Nat → Nat) : Int64 := pp_tot cn qq mq fq sn (fun _ => 7) 0
def pp_xshare (cn qq : Nat) (mq fq sn : Nat → Nat) (x y : Int32) : Int64 := if pp_bad cn x = 0 ∧ pp_bdg y = 0 then pp_tot cn qq mq fq sn (va_up (fun _ => 7) (pp_j x) (2 ^ pp_j y)) 0 else 0
def pp_al2 (j g r h : Nat) : Nat → Nat := va_up (va_up (fun _ => 7) j (2 ^ g)) r (va_up (fun _ => 7) j (2 ^ g) r &&& 2 ^ h)
def pp_xtwo (cn qq : Nat) (mq fq sn : Nat → Nat) (x y z v : Int32) : Int64 := if pp_bad cn x = 0 ∧ pp_bdg y = 0 ∧ pp_bad cn z = 0 ∧ pp_bdg v = 0 then pp_tot cn qq mq fq sn (pp_al2 (pp_j x) (pp_j y) (pp_j z) (pp_j v)) 0 else 0
def pp_xcop (cn qq : Nat) (mq fq sn : Nat → Nat) (x : Int32) : Int64 := if pp_bad cn x = 0 then pp_xshare cn qq mq fq sn x (nI 1) + 2 * pp_xshare cn qq mq fq sn x (nI 2) else 0
def pp_xps (cn qq : Nat) (mq fq sn : Nat → Nat) (j : Nat) : Nat → Nat
  | 0 => 0
  | g + 1 => if pp_tot cn qq mq fq sn (va_up (fun _ => 7) j (2 ^ g)) 1 = 0 then pp_xps cn qq mq fq sn j g else pp_xps cn qq mq fq sn j g ||| 2 ^ g
def pp_xpos (cn qq : Nat) (mq fq sn : Nat → Nat) (x : Int32) : Nat := if pp_bad cn x = 0 then pp_xps cn qq mq fq sn (pp_j x) 3 else 0
def pp_anc (mq fq : Nat → Nat) : Nat → Nat → Nat
  | 0, S => S
  | k + 1, S => pp_anc mq fq k (if pp_bt S k = 1 ∧ mq k ≠ 0 then S ||| 2 ^ (mq k - 1) ||| 2 ^ (fq k - 1) else S)
def pp_xbef (cn : Nat) (mq fq : Nat → Nat) (x y : Int32) : Nat := if pp_bad cn x = 0 ∧ pp_bad cn y = 0 ∧ ¬ x = y ∧ pp_bt (pp_anc mq fq (pp_j y + 1) (2 ^ pp_j y)) (pp_j x) = 1 then 1 else 0
theorem pp_al_sh {al : Nat → Nat} {j v t : Nat} (ht : t < 7) : va_up (pp_al7 al 7) j v t = va_up (fun _ => 7) j v t := by
  by_cases h : t = j
  · subst h; rw [pp_up_self, pp_up_self]
  · rw [pp_up_ne _ _ h, pp_up_ne _ _ h]
    unfold pp_al7
    rw [if_pos ht]
theorem pp_al7_lt {al : Nat → Nat} : ∀ p, p < 7 → pp_al7 al 7 p < 8 := fun p hp => by
  unfold pp_al7
  rw [if_pos hp]
  decide
theorem pp_pow8 {g : Nat} (h : g < 3) : 2 ^ g < 8 := by
  have h1 : 2 ^ g < 2 ^ 3 := Nat.pow_lt_pow_right (by decide) h
  omega
theorem pp_up_lt {al : Nat → Nat} {j v b : Nat} (h : ∀ p, p < 7 → al p < b) (hv : v < b) : ∀ p, p < 7 → va_up al j v p < b := fun p hp => by
  by_cases e : p = j
  · subst e; rw [pp_up_self]; exact hv
  · rw [pp_up_ne _ _ e]; exact h p hp
end
section
def R_law : String := "PedigreePeelingLaw"
section PL_addX
variable {p : Program} {l : Launch} {e : Env} {R : Room} {s : State} {m : MethodId} {args : Array Value} {below : List Frame} {meth : Method} {c : Code} {H : Heap} {locs : List Loc} {cells slots : Nat} {Q : State → Prop}
variable {cc : ByteArray} {pc nL : Nat} {ls : Array Slot} {rest : List Value}
variable {D : va_G} {dA dL : ClassId} {ad : Nat → Nat} {A : Nat → Prop} {H0 : Heap} {cn qq : Nat} {mq fq sn al : Nat → Nat} {ow tb us : Nat} {sc bg : Nat → Nat} {ce : Nat → Int64} {ge : Nat → Nat}
set_option maxHeartbeats 4000000 in
set_option maxRecDepth 100000 in
theorem lX_add (hC : pp_CX p m c cX0_add 4 s args RX0 D dA dL) {v1 v2 : Nat} (hcn : cn < 7) : ∀ (n : Nat) (i : Nat) (ls : Array Slot) (H : Heap) (locs : List Loc), 3 - i = n → i ≤ 3 → pp_IX D dA dL ad A H0 cn qq mq fq (pp_sn3 sn cn i) al ow tb us sc bg ce ge H locs → lv_has ls 4 [(0, .ref (ad 0)), (1, .int (nI v1 - 1)), (2, .int (nI v2 - 1)), (3, .int (nI i))] → (∀ (ls : Array Slot) (H : Heap) (locs : List Loc), pp_IX D dA dL ad A H0 cn qq mq fq (pp_sn3 sn cn 3) al ow tb us sc bg ce ge H locs → lv_has ls 4 [(0, .ref (ad 0)), (1, .int (nI v1 - 1)), (2, .int (nI v2 - 1)), (3, .int (nI 3))] → W p l e R s m args below meth c H locs cells slots Q (F0 m 59 ls [])) → W p l e R s m args below meth c H locs cells slots Q (F0 m 34 ls []) := by
  have hx := hC.1.1
  have hb := hC.1.2.1
  intro n
  induction n using Nat.strongRecOn with
  | ind n ih =>
    intro i ls H locs hn g1 hw hl kk1
    refine lv_iload_n hx hb dX0_add_34 rfl (lv_at hl 3 rfl) ?_
    refine lv_iconst (v := (nI 3)) hx hb dX0_add_35 (by decide) ?_
    refine nr_ge (tgt := 59) hx hb dX0_add_36 (by decide) (by omega) (by omega) (fun h1 => ?_) (fun h1 => ?_)
    · obtain rfl : i = 3 := by omega
      exact kk1 ls H locs hw hl
    · refine lv_aload_n hx hb dX0_add_39 rfl (lv_at hl 0 rfl) ?_
      refine xg_sn hC hw dX0_add_40 ?_
      refine lv_aload_n hx hb dX0_add_43 rfl (lv_at hl 0 rfl) ?_
      refine xg_cn hC hw dX0_add_44 ?_
      refine lv_iconst (v := (nI 3)) hx hb dX0_add_47 (by decide) ?_
      refine nr_mul hx hb dX0_add_48 ?_
      refine lv_iload_n hx hb dX0_add_49 rfl (lv_at hl 3 rfl) ?_
      refine nr_add hx hb dX0_add_50 ?_
      refine nr_top (y := (nI (3 * cn + i))) (by rw [Nat.mul_comm]) ?_
      refine lv_iconst (v := (nI 1)) hx hb dX0_add_51 (by decide) ?_
      refine xs_sn hC hw (by omega) dX0_add_52 (fun H locs hw => ?_)
      rw [pp_sn3_s] at hw
      refine lv_iinc (v := (nI (i + 1))) (lv' := [(3, .int (nI (i + 1))), (0, .ref (ad 0)), (1, .int (nI v1 - 1)), (2, .int (nI v2 - 1))]) hx hb dX0_add_53 hl (k := 3) rfl (pn_inc _) (by decide) rfl (fun ls hl => ?_)
      refine lv_goto (tgt := 34) hx hb dX0_add_56 (by decide) ?_
      exact ih (3 - (i + 1)) (by omega) (i + 1) ls H locs rfl (by omega) hw (lv_sub hl [1, 2, 3, 0] rfl) kk1
end PL_addX
set_option maxHeartbeats 4000000 in
set_option maxRecDepth 100000 in
theorem mX_add (l : Launch) (D : va_G) (dA dL : ClassId) (ad : Nat → Nat) (cn qq : Nat) (mq fq sn al : Nat → Nat) (ow tb us : Nat) (sc bg : Nat → Nat) (ce : Nat → Int64) (ge : Nat → Nat) (v1 : Nat) (v2 : Nat) (hcn : cn ≤ 7) : Met l yX0_add (ws_ yX0_add cX0_add 4 (some .int)) ({ frames := 0, cells := 0, slots := 0, locals := 0 } : Room) (pp_Pc D dA dL (pp_WX dA dL ad cn qq mq fq sn al ow tb us sc bg ce ge) [.ref (ad 0), .int (nI v1 - 1), .int (nI v2 - 1)]) (va_Qi (fun (z0 : Int32) (u : Nat × (Nat → Nat) × (Nat → Nat) × (Nat → Nat)) => (z0, u) = pp_fadd cn mq fq sn v1 v2) (fun u t => va_P D vwCl ((fun (u : Nat × (Nat → Nat) × (Nat → Nat) × (Nat → Nat)) => pp_WX dA dL ad (u.1) qq (u.2.1) (u.2.2.1) (u.2.2.2) al ow tb us sc bg ce ge) u) t.heap) (pp_AX ad)) 0 0 (pp_AX ad) := by
  refine pp_ofX (by decide) rfl (Nat.le_of_ble_eq_true rfl) ?_
  intro p e s m below meth c ls hC hr hlocks hw hl
  have hx := hC.1.1
  have hb := hC.1.2.1
  have hl : lv_has ls 4 [(0, .ref (ad 0)), (1, .int (nI v1 - 1)), (2, .int (nI v2 - 1))] := hl
  refine lv_aload_n hx hb dX0_add_0 rfl (lv_at hl 0 rfl) ?_
  refine xg_cn hC hw dX0_add_1 ?_
  refine lv_bipush (v := (nI 7)) hx hb dX0_add_4 (by decide) ?_
  refine nr_ne (tgt := 12) hx hb dX0_add_6 (by decide) (by omega) (by omega) (fun h0 => ?_) (fun h0 => ?_)
  · refine lv_aload_n hx hb dX0_add_12 rfl (lv_at hl 0 rfl) ?_
    refine xg_mq hC hw dX0_add_13 ?_
    refine lv_aload_n hx hb dX0_add_16 rfl (lv_at hl 0 rfl) ?_
    refine xg_cn hC hw dX0_add_17 ?_
    refine lv_iload_n hx hb dX0_add_20 rfl (lv_at hl 1 rfl) ?_
    refine xs_mq hC hw (by omega) dX0_add_21 (fun H locs hw => ?_)
    refine lv_aload_n hx hb dX0_add_22 rfl (lv_at hl 0 rfl) ?_
    refine xg_fq hC hw dX0_add_23 ?_
    refine lv_aload_n hx hb dX0_add_26 rfl (lv_at hl 0 rfl) ?_
    refine xg_cn hC hw dX0_add_27 ?_
    refine lv_iload_n hx hb dX0_add_30 rfl (lv_at hl 2 rfl) ?_
    refine xs_fq hC hw (by omega) dX0_add_31 (fun H locs hw => ?_)
    refine lv_iconst (v := (nI 0)) hx hb dX0_add_32 (by decide) ?_
    refine lv_istore_n (lv' := [(3, .int (nI 0)), (0, .ref (ad 0)), (1, .int (nI v1 - 1)), (2, .int (nI v2 - 1))]) hx hb dX0_add_33 rfl hl (by decide) rfl (fun ls hl => ?_)
    refine lX_add (cn := cn) hC (by omega) 3 0 ls _ _ rfl (by decide) (by rw [pp_sn3_0]; exact hw) (lv_sub hl [1, 2, 3, 0] rfl) (fun ls H locs hw hl => ?_)
    refine lv_aload_n hx hb dX0_add_59 rfl (lv_at hl 0 rfl) ?_
    refine lv_dup hx hb dX0_add_60 rfl ?_
    refine xg_cn hC hw dX0_add_61 ?_
    refine lv_iconst (v := (nI 1)) hx hb dX0_add_64 (by decide) ?_
    refine nr_add hx hb dX0_add_65 ?_
    refine xp_cn hC hw dX0_add_66 (fun H locs hw => ?_)
    refine lv_aload_n hx hb dX0_add_69 rfl (lv_at hl 0 rfl) ?_
    refine xg_cn hC hw dX0_add_70 ?_
    refine lv_iconst (v := (nI 1)) hx hb dX0_add_73 (by decide) ?_
    refine nr_sub hx hb (by omega) dX0_add_74 ?_
    refine nr_top (y := (nI cn)) (by rw [Nat.add_sub_cancel]) ?_
    exact pp_rQ_i (F := fun (u : Nat × (Nat → Nat) × (Nat → Nat) × (Nat → Nat)) => pp_WX dA dL ad (u.1) qq (u.2.1) (u.2.2.1) (u.2.2.2) al ow tb us sc bg ce ge) hx hb hr hlocks dX0_add_75 (cn + 1, va_up mq cn v1, va_up fq cn v2, pp_sn3 sn cn 3) (by show (_, _) = pp_fadd _ _ _ _ _ _; rw [pp_fadd, if_neg h0]) hw.1 hw.2.2
  · refine lv_bipush (v := (-2)) hx hb dX0_add_9 (by decide) ?_
    exact pp_rQ_i (F := fun (u : Nat × (Nat → Nat) × (Nat → Nat) × (Nat → Nat)) => pp_WX dA dL ad (u.1) qq (u.2.1) (u.2.2.1) (u.2.2.2) al ow tb us sc bg ce ge) hx hb hr hlocks dX0_add_11 (cn, mq, fq, sn) (by show (_, _) = pp_fadd _ _ _ _ _ _; rw [pp_fadd, if_pos h0]) hw.1 hw.2.2
section PC_X_add
variable {p : Program} {l : Launch} {e : Env} {R : Room} {s : State} {m : MethodId} {args : Array Value} {below : List Frame} {meth : Method} {c : Code} {H : Heap} {locs : List Loc} {cells slots : Nat} {Q : State → Prop}
variable {cc : ByteArray} {pc nL : Nat} {ls : Array Slot} {rest : List Value}
variable {D : va_G} {dA dL : ClassId} {ad : Nat → Nat} {A : Nat → Prop} {H0 : Heap} {cn qq : Nat} {mq fq sn al : Nat → Nat} {ow tb us : Nat} {sc bg : Nat → Nat} {ce : Nat → Int64} {ge : Nat → Nat}
set_option maxRecDepth 100000 in
theorem xc_add (hC : pp_CX p m c cc nL s args RX0 D dA dL) (hw : pp_IX D dA dL ad A H0 cn qq mq fq sn al ow tb us sc bg ce ge H locs) {v1 : Nat} {v2 : Nat} (hcn : cn ≤ 7) (hR : pp_RM R cells slots 1 23) (hsz : ls.size = nL) (hrest : (rest.map fun v => v.category).sum ≤ 8) (hdg : decode cc pc = .ok (.invokevirtual 42, 3)) (kk : ∀ (r : Int32) (u : Nat × (Nat → Nat) × (Nat → Nat) × (Nat → Nat)) (H1 : Heap) (locs1 : List Loc), (fun (z0 : Int32) (u : Nat × (Nat → Nat) × (Nat → Nat) × (Nat → Nat)) => (z0, u) = pp_fadd cn mq fq sn v1 v2) r u → pp_IX D dA dL ad A H0 (u.1) qq (u.2.1) (u.2.2.1) (u.2.2.2) al ow tb us sc bg ce ge H1 locs1 → (∀ q : Nat, q < H.size → ¬ pp_AX ad q → H1[q]? = H[q]?) → W p l e R s m args below meth c H1 locs1 cells slots Q (F0 m (pc + 3) ls (.int r :: rest))) : W p l e R s m args below meth c H locs cells slots Q (F0 m pc ls (.int (nI v2 - 1) :: .int (nI v1 - 1) :: .ref (ad 0) :: rest)) := pp_cQ_i (n := 2) (F := fun (u : Nat × (Nat → Nat) × (Nat → Nat) × (Nat → Nat)) => pp_WX dA dL ad (u.1) qq (u.2.1) (u.2.2.1) (u.2.2.2) al ow tb us sc bg ce ge) hC hw.1 hw.2.1 hw.2.2 (mX_add l D dA dL ad cn qq mq fq sn al ow tb us sc bg ce ge v1 v2 hcn) (pp_D_all hw.2.1 rfl) (lw_V q86 q88 qs0 q30 q89) (by decide +kernel) rfl rfl rfl hR (va_recv hC.2 hw.1 (ci := 0) (q0 := 0) rfl rfl) hsz hrest hdg rfl (fun r u H1 l1 h hP hS hk => kk r u H1 l1 h ⟨hP, pp_D_addr hw.2.1 rfl, hS⟩ hk)
end PC_X_add
set_option maxHeartbeats 4000000 in
set_option maxRecDepth 100000 in
theorem mX_founder (l : Launch) (D : va_G) (dA dL : ClassId) (ad : Nat → Nat) (cn qq : Nat) (mq fq sn al : Nat → Nat) (ow tb us : Nat) (sc bg : Nat → Nat) (ce : Nat → Int64) (ge : Nat → Nat) (hcn : cn ≤ 7) : Met l yX0_founder (ws_ yX0_founder cX0_founder 1 (some .int)) ({ frames := 1, cells := 0, slots := 0, locals := 23 } : Room) (pp_Pc D dA dL (pp_WX dA dL ad cn qq mq fq sn al ow tb us sc bg ce ge) [.ref (ad 0)]) (va_Qi (fun (z0 : Int32) (u : Nat × (Nat → Nat) × (Nat → Nat) × (Nat → Nat)) => (z0, u) = pp_fadd cn mq fq sn 0 0) (fun u t => va_P D vwCl ((fun (u : Nat × (Nat → Nat) × (Nat → Nat) × (Nat → Nat)) => pp_WX dA dL ad (u.1) qq (u.2.1) (u.2.2.1) (u.2.2.2) al ow tb us sc bg ce ge) u) t.heap) (pp_AX ad)) 0 0 (pp_AX ad) := by
  refine pp_ofX (by decide) rfl (Nat.le_of_ble_eq_true rfl) ?_
  intro p e s m below meth c ls hC hr hlocks hw hl
  have hx := hC.1.1
  have hb := hC.1.2.1
  have hl : lv_has ls 1 [(0, .ref (ad 0))] := hl
  have hR : pp_RM ({ frames := 1, cells := 0, slots := 0, locals := 23 } : Room) 0 0 1 23 := ⟨Nat.le_of_ble_eq_true rfl, Nat.le_of_ble_eq_true rfl, Nat.le_of_ble_eq_true rfl, Nat.le_of_ble_eq_true rfl⟩
  refine lv_aload_n hx hb dX0_founder_0 rfl (lv_at hl 0 rfl) ?_
  refine lv_iconst (v := (nI 0 - 1)) hx hb dX0_founder_1 (by decide) ?_
  refine lv_iconst (v := (nI 0 - 1)) hx hb dX0_founder_2 (by decide) ?_
  refine xc_add hC hw hcn (hR.le (by decide) (by decide)) hl.1 (Nat.le_of_ble_eq_true rfl) dX0_founder_3 (fun r u H locs hru hw hk => ?_)
  exact pp_rQ_i (F := fun (u : Nat × (Nat → Nat) × (Nat → Nat) × (Nat → Nat)) => pp_WX dA dL ad (u.1) qq (u.2.1) (u.2.2.1) (u.2.2.2) al ow tb us sc bg ce ge) hx hb hr hlocks dX0_founder_6 u hru hw.1 hw.2.2
section PC_X_founder
variable {p : Program} {l : Launch} {e : Env} {R : Room} {s : State} {m : MethodId} {args : Array Value} {below : List Frame} {meth : Method} {c : Code} {H : Heap} {locs : List Loc} {cells slots : Nat} {Q : State → Prop}
variable {cc : ByteArray} {pc nL : Nat} {ls : Array Slot} {rest : List Value}
variable {D : va_G} {dA dL : ClassId} {ad : Nat → Nat} {A : Nat → Prop} {H0 : Heap} {cn qq : Nat} {mq fq sn al : Nat → Nat} {ow tb us : Nat} {sc bg : Nat → Nat} {ce : Nat → Int64} {ge : Nat → Nat}
set_option maxRecDepth 100000 in
theorem xcL_founder (hC : pp_CX p m c cc nL s args R_law D dA dL) (hw : pp_IX D dA dL ad A H0 cn qq mq fq sn al ow tb us sc bg ce ge H locs) (hcn : cn ≤ 7) (hR : pp_RM R cells slots 2 43) (hsz : ls.size = nL) (hrest : (rest.map fun v => v.category).sum ≤ 8) (hdg : decode cc pc = .ok (.invokevirtual 13, 3)) (kk : ∀ (r : Int32) (u : Nat × (Nat → Nat) × (Nat → Nat) × (Nat → Nat)) (H1 : Heap) (locs1 : List Loc), (fun (z0 : Int32) (u : Nat × (Nat → Nat) × (Nat → Nat) × (Nat → Nat)) => (z0, u) = pp_fadd cn mq fq sn 0 0) r u → pp_IX D dA dL ad A H0 (u.1) qq (u.2.1) (u.2.2.1) (u.2.2.2) al ow tb us sc bg ce ge H1 locs1 → (∀ q : Nat, q < H.size → ¬ pp_AX ad q → H1[q]? = H[q]?) → W p l e R s m args below meth c H1 locs1 cells slots Q (F0 m (pc + 3) ls (.int r :: rest))) : W p l e R s m args below meth c H locs cells slots Q (F0 m pc ls (.ref (ad 0) :: rest)) := pp_cQ_i (n := 0) (F := fun (u : Nat × (Nat → Nat) × (Nat → Nat) × (Nat → Nat)) => pp_WX dA dL ad (u.1) qq (u.2.1) (u.2.2.1) (u.2.2.2) al ow tb us sc bg ce ge) hC hw.1 hw.2.1 hw.2.2 (mX_founder l D dA dL ad cn qq mq fq sn al ow tb us sc bg ce ge hcn) (pp_D_all hw.2.1 rfl) (lw_V q82 q83 q84 q30 q85) (by decide +kernel) rfl rfl rfl hR (va_recv hC.2 hw.1 (ci := 0) (q0 := 0) rfl rfl) hsz hrest hdg rfl (fun r u H1 l1 h hP hS hk => kk r u H1 l1 h ⟨hP, pp_D_addr hw.2.1 rfl, hS⟩ hk)
end PC_X_founder
set_option maxHeartbeats 4000000 in
set_option maxRecDepth 100000 in
theorem mX_child (l : Launch) (D : va_G) (dA dL : ClassId) (ad : Nat → Nat) (cn qq : Nat) (mq fq sn al : Nat → Nat) (ow tb us : Nat) (sc bg : Nat → Nat) (ce : Nat → Int64) (ge : Nat → Nat) (x : Int32) (y : Int32) (hcn : cn ≤ 7) : Met l yX0_child (ws_ yX0_child cX0_child 3 (some .int)) ({ frames := 1, cells := 0, slots := 0, locals := 23 } : Room) (pp_Pc D dA dL (pp_WX dA dL ad cn qq mq fq sn al ow tb us sc bg ce ge) [.ref (ad 0), .int x, .int y]) (va_Qi (fun (z0 : Int32) (u : Nat × (Nat → Nat) × (Nat → Nat) × (Nat → Nat)) => (z0, u) = pp_fchild cn mq fq sn x y) (fun u t => va_P D vwCl ((fun (u : Nat × (Nat → Nat) × (Nat → Nat) × (Nat → Nat)) => pp_WX dA dL ad (u.1) qq (u.2.1) (u.2.2.1) (u.2.2.2) al ow tb us sc bg ce ge) u) t.heap) (pp_AX ad)) 0 0 (pp_AX ad) := by
  refine pp_ofX (by decide) rfl (Nat.le_of_ble_eq_true rfl) ?_
  intro p e s m below meth c ls hC hr hlocks hw hl
  have hx := hC.1.1
  have hb := hC.1.2.1
  have hl : lv_has ls 3 [(0, .ref (ad 0)), (1, .int x), (2, .int y)] := hl
  have hR : pp_RM ({ frames := 1, cells := 0, slots := 0, locals := 23 } : Room) 0 0 1 23 := ⟨Nat.le_of_ble_eq_true rfl, Nat.le_of_ble_eq_true rfl, Nat.le_of_ble_eq_true rfl, Nat.le_of_ble_eq_true rfl⟩
  refine lv_aload_n hx hb dX0_child_0 rfl (lv_at hl 0 rfl) ?_
  refine lv_iload_n hx hb dX0_child_1 rfl (lv_at hl 1 rfl) ?_
  refine xc_bad  hC hw  (hR.le (by decide) (by decide)) hl.1 (Nat.le_of_ble_eq_true rfl) dX0_child_2 ?_
  refine nr_z_ne (tgt := 21) hx hb dX0_child_5 (by decide) (by have := pp_bad_lt cn x; omega) (fun h1 => ?_) (fun h1 => ?_)
  · refine lv_iconst (v := (-1)) hx hb dX0_child_21 (by decide) ?_
    exact pp_rQ_i (F := fun (u : Nat × (Nat → Nat) × (Nat → Nat) × (Nat → Nat)) => pp_WX dA dL ad (u.1) qq (u.2.1) (u.2.2.1) (u.2.2.2) al ow tb us sc bg ce ge) hx hb hr hlocks dX0_child_22 (cn, mq, fq, sn) (by show (_, _) = pp_fchild _ _ _ _ _ _; unfold pp_fchild; rw [if_neg]; rintro ⟨a, b, c⟩; first | exact h1 a | exact h2 b | exact c h3) hw.1 hw.2.2
  · refine lv_aload_n hx hb dX0_child_8 rfl (lv_at hl 0 rfl) ?_
    refine lv_iload_n hx hb dX0_child_9 rfl (lv_at hl 2 rfl) ?_
    refine xc_bad  hC hw  (hR.le (by decide) (by decide)) hl.1 (Nat.le_of_ble_eq_true rfl) dX0_child_10 ?_
    refine nr_z_ne (tgt := 21) hx hb dX0_child_13 (by decide) (by have := pp_bad_lt cn y; omega) (fun h2 => ?_) (fun h2 => ?_)
    · refine lv_iconst (v := (-1)) hx hb dX0_child_21 (by decide) ?_
      exact pp_rQ_i (F := fun (u : Nat × (Nat → Nat) × (Nat → Nat) × (Nat → Nat)) => pp_WX dA dL ad (u.1) qq (u.2.1) (u.2.2.1) (u.2.2.2) al ow tb us sc bg ce ge) hx hb hr hlocks dX0_child_22 (cn, mq, fq, sn) (by show (_, _) = pp_fchild _ _ _ _ _ _; unfold pp_fchild; rw [if_neg]; rintro ⟨a, b, c⟩; first | exact h1 a | exact h2 b | exact c h3) hw.1 hw.2.2
    · refine lv_iload_n hx hb dX0_child_16 rfl (lv_at hl 1 rfl) ?_
      refine lv_iload_n hx hb dX0_child_17 rfl (lv_at hl 2 rfl) ?_
      refine lv_icmp_ne (tgt := 23) hx hb dX0_child_18 (by decide) (fun h3 => ?_) (fun h3 => ?_)
      · refine lv_aload_n hx hb dX0_child_23 rfl (lv_at hl 0 rfl) ?_
        refine lv_iload_n hx hb dX0_child_24 rfl (lv_at hl 1 rfl) ?_
        refine nr_top (y := (nI (pp_j x + 1) - 1)) ((pp_bad_0 h1 hcn).1.trans (pn_pr _)) ?_
        refine lv_iload_n hx hb dX0_child_25 rfl (lv_at hl 2 rfl) ?_
        refine nr_top (y := (nI (pp_j y + 1) - 1)) ((pp_bad_0 h2 hcn).1.trans (pn_pr _)) ?_
        refine xc_add hC hw hcn (hR.le (by decide) (by decide)) hl.1 (Nat.le_of_ble_eq_true rfl) dX0_child_26 (fun r u H locs hru hw hk => ?_)
        exact pp_rQ_i (F := fun (u : Nat × (Nat → Nat) × (Nat → Nat) × (Nat → Nat)) => pp_WX dA dL ad (u.1) qq (u.2.1) (u.2.2.1) (u.2.2.2) al ow tb us sc bg ce ge) hx hb hr hlocks dX0_child_29 u (by show (_, _) = pp_fchild _ _ _ _ _ _; rw [pp_fchild, if_pos ⟨h1, h2, h3⟩]; exact hru) hw.1 hw.2.2
      · refine lv_iconst (v := (-1)) hx hb dX0_child_21 (by decide) ?_
        exact pp_rQ_i (F := fun (u : Nat × (Nat → Nat) × (Nat → Nat) × (Nat → Nat)) => pp_WX dA dL ad (u.1) qq (u.2.1) (u.2.2.1) (u.2.2.2) al ow tb us sc bg ce ge) hx hb hr hlocks dX0_child_22 (cn, mq, fq, sn) (by show (_, _) = pp_fchild _ _ _ _ _ _; unfold pp_fchild; rw [if_neg]; rintro ⟨a, b, c⟩; first | exact h1 a | exact h2 b | exact c h3) hw.1 hw.2.2
section PC_X_child
variable {p : Program} {l : Launch} {e : Env} {R : Room} {s : State} {m : MethodId} {args : Array Value} {below : List Frame} {meth : Method} {c : Code} {H : Heap} {locs : List Loc} {cells slots : Nat} {Q : State → Prop}
variable {cc : ByteArray} {pc nL : Nat} {ls : Array Slot} {rest : List Value}
variable {D : va_G} {dA dL : ClassId} {ad : Nat → Nat} {A : Nat → Prop} {H0 : Heap} {cn qq : Nat} {mq fq sn al : Nat → Nat} {ow tb us : Nat} {sc bg : Nat → Nat} {ce : Nat → Int64} {ge : Nat → Nat}
set_option maxRecDepth 100000 in
theorem xcL_child (hC : pp_CX p m c cc nL s args R_law D dA dL) (hw : pp_IX D dA dL ad A H0 cn qq mq fq sn al ow tb us sc bg ce ge H locs) {x : Int32} {y : Int32} (hcn : cn ≤ 7) (hR : pp_RM R cells slots 2 45) (hsz : ls.size = nL) (hrest : (rest.map fun v => v.category).sum ≤ 8) (hdg : decode cc pc = .ok (.invokevirtual 18, 3)) (kk : ∀ (r : Int32) (u : Nat × (Nat → Nat) × (Nat → Nat) × (Nat → Nat)) (H1 : Heap) (locs1 : List Loc), (fun (z0 : Int32) (u : Nat × (Nat → Nat) × (Nat → Nat) × (Nat → Nat)) => (z0, u) = pp_fchild cn mq fq sn x y) r u → pp_IX D dA dL ad A H0 (u.1) qq (u.2.1) (u.2.2.1) (u.2.2.2) al ow tb us sc bg ce ge H1 locs1 → (∀ q : Nat, q < H.size → ¬ pp_AX ad q → H1[q]? = H[q]?) → W p l e R s m args below meth c H1 locs1 cells slots Q (F0 m (pc + 3) ls (.int r :: rest))) : W p l e R s m args below meth c H locs cells slots Q (F0 m pc ls (.int y :: .int x :: .ref (ad 0) :: rest)) := pp_cQ_i (n := 2) (F := fun (u : Nat × (Nat → Nat) × (Nat → Nat) × (Nat → Nat)) => pp_WX dA dL ad (u.1) qq (u.2.1) (u.2.2.1) (u.2.2.2) al ow tb us sc bg ce ge) hC hw.1 hw.2.1 hw.2.2 (mX_child l D dA dL ad cn qq mq fq sn al ow tb us sc bg ce ge x y hcn) (pp_D_all hw.2.1 rfl) (lw_V q90 q91 q92 q30 q93) (by decide +kernel) rfl rfl rfl hR (va_recv hC.2 hw.1 (ci := 0) (q0 := 0) rfl rfl) hsz hrest hdg rfl (fun r u H1 l1 h hP hS hk => kk r u H1 l1 h ⟨hP, pp_D_addr hw.2.1 rfl, hS⟩ hk)
end PC_X_child
set_option maxHeartbeats 4000000 in
set_option maxRecDepth 100000 in
theorem mX_remove (l : Launch) (D : va_G) (dA dL : ClassId) (ad : Nat → Nat) (cn qq : Nat) (mq fq sn al : Nat → Nat) (ow tb us : Nat) (sc bg : Nat → Nat) (ce : Nat → Int64) (ge : Nat → Nat) (hcn : cn ≤ 7) : Met l yX0_remove (ws_ yX0_remove cX0_remove 1 (some .int)) ({ frames := 0, cells := 0, slots := 0, locals := 0 } : Room) (pp_Pc D dA dL (pp_WX dA dL ad cn qq mq fq sn al ow tb us sc bg ce ge) [.ref (ad 0)]) (va_Qi (fun (z0 : Int32) (u : Nat) => (z0, u) = pp_frem cn) (fun u t => va_P D vwCl ((fun (u : Nat) => pp_WX dA dL ad u qq mq fq sn al ow tb us sc bg ce ge) u) t.heap) (pp_AX ad)) 0 0 (pp_AX ad) := by
  refine pp_ofX (by decide) rfl (Nat.le_of_ble_eq_true rfl) ?_
  intro p e s m below meth c ls hC hr hlocks hw hl
  have hx := hC.1.1
  have hb := hC.1.2.1
  have hl : lv_has ls 1 [(0, .ref (ad 0))] := hl
  refine lv_aload_n hx hb dX0_remove_0 rfl (lv_at hl 0 rfl) ?_
  refine xg_cn hC hw dX0_remove_1 ?_
  refine nr_z_ne (tgt := 9) hx hb dX0_remove_4 (by decide) (by omega) (fun h1 => ?_) (fun h1 => ?_)
  · refine lv_aload_n hx hb dX0_remove_9 rfl (lv_at hl 0 rfl) ?_
    refine lv_dup hx hb dX0_remove_10 rfl ?_
    refine xg_cn hC hw dX0_remove_11 ?_
    refine lv_iconst (v := (nI 1)) hx hb dX0_remove_14 (by decide) ?_
    refine nr_sub hx hb (by omega) dX0_remove_15 ?_
    refine xp_cn hC hw dX0_remove_16 (fun H locs hw => ?_)
    refine lv_aload_n hx hb dX0_remove_19 rfl (lv_at hl 0 rfl) ?_
    refine xg_cn hC hw dX0_remove_20 ?_
    exact pp_rQ_i (F := fun (u : Nat) => pp_WX dA dL ad u qq mq fq sn al ow tb us sc bg ce ge) hx hb hr hlocks dX0_remove_23 (cn - 1) (by show (_, _) = pp_frem cn; rw [pp_frem, if_neg h1]) hw.1 hw.2.2
  · refine lv_iconst (v := (-1)) hx hb dX0_remove_7 (by decide) ?_
    exact pp_rQ_i (F := fun (u : Nat) => pp_WX dA dL ad u qq mq fq sn al ow tb us sc bg ce ge) hx hb hr hlocks dX0_remove_8 cn (by show (_, _) = pp_frem cn; rw [pp_frem, if_pos h1]) hw.1 hw.2.2
section PC_X_remove
variable {p : Program} {l : Launch} {e : Env} {R : Room} {s : State} {m : MethodId} {args : Array Value} {below : List Frame} {meth : Method} {c : Code} {H : Heap} {locs : List Loc} {cells slots : Nat} {Q : State → Prop}
variable {cc : ByteArray} {pc nL : Nat} {ls : Array Slot} {rest : List Value}
variable {D : va_G} {dA dL : ClassId} {ad : Nat → Nat} {A : Nat → Prop} {H0 : Heap} {cn qq : Nat} {mq fq sn al : Nat → Nat} {ow tb us : Nat} {sc bg : Nat → Nat} {ce : Nat → Int64} {ge : Nat → Nat}
set_option maxRecDepth 100000 in
theorem xcL_remove (hC : pp_CX p m c cc nL s args R_law D dA dL) (hw : pp_IX D dA dL ad A H0 cn qq mq fq sn al ow tb us sc bg ce ge H locs) (hcn : cn ≤ 7) (hR : pp_RM R cells slots 1 20) (hsz : ls.size = nL) (hrest : (rest.map fun v => v.category).sum ≤ 8) (hdg : decode cc pc = .ok (.invokevirtual 23, 3)) (kk : ∀ (r : Int32) (u : Nat) (H1 : Heap) (locs1 : List Loc), (fun (z0 : Int32) (u : Nat) => (z0, u) = pp_frem cn) r u → pp_IX D dA dL ad A H0 u qq mq fq sn al ow tb us sc bg ce ge H1 locs1 → (∀ q : Nat, q < H.size → ¬ pp_AX ad q → H1[q]? = H[q]?) → W p l e R s m args below meth c H1 locs1 cells slots Q (F0 m (pc + 3) ls (.int r :: rest))) : W p l e R s m args below meth c H locs cells slots Q (F0 m pc ls (.ref (ad 0) :: rest)) := pp_cQ_i (n := 0) (F := fun (u : Nat) => pp_WX dA dL ad u qq mq fq sn al ow tb us sc bg ce ge) hC hw.1 hw.2.1 hw.2.2 (mX_remove l D dA dL ad cn qq mq fq sn al ow tb us sc bg ce ge hcn) (pp_D_all hw.2.1 rfl) (lw_V q98 q99 q100 q30 q101) (by decide +kernel) rfl rfl rfl hR (va_recv hC.2 hw.1 (ci := 0) (q0 := 0) rfl rfl) hsz hrest hdg rfl (fun r u H1 l1 h hP hS hk => kk r u H1 l1 h ⟨hP, pp_D_addr hw.2.1 rfl, hS⟩ hk)
end PC_X_remove
set_option maxHeartbeats 4000000 in
set_option maxRecDepth 100000 in
theorem mX_persons (l : Launch) (D : va_G) (dA dL : ClassId) (ad : Nat → Nat) (cn qq : Nat) (mq fq sn al : Nat → Nat) (ow tb us : Nat) (sc bg : Nat → Nat) (ce : Nat → Int64) (ge : Nat → Nat)  : Met l yX0_persons (ws_ yX0_persons cX0_persons 1 (some .int)) ({ frames := 0, cells := 0, slots := 0, locals := 0 } : Room) (pp_Pc D dA dL (pp_WX dA dL ad cn qq mq fq sn al ow tb us sc bg ce ge) [.ref (ad 0)]) (vp_Si (fun z0 => z0 = (nI cn))) 0 0 (fun _ => False) := by
  refine pp_ofX (by decide) rfl (Nat.le_of_ble_eq_true rfl) ?_
  intro p e s m below meth c ls hC hr hlocks hw hl
  have hx := hC.1.1
  have hb := hC.1.2.1
  have hl : lv_has ls 1 [(0, .ref (ad 0))] := hl
  refine lv_aload_n hx hb dX0_persons_0 rfl (lv_at hl 0 rfl) ?_
  refine xg_cn hC hw dX0_persons_1 ?_
  exact pp_rS_i hx hb hr hlocks dX0_persons_4 rfl
section PC_X_persons
variable {p : Program} {l : Launch} {e : Env} {R : Room} {s : State} {m : MethodId} {args : Array Value} {below : List Frame} {meth : Method} {c : Code} {H : Heap} {locs : List Loc} {cells slots : Nat} {Q : State → Prop}
variable {cc : ByteArray} {pc nL : Nat} {ls : Array Slot} {rest : List Value}
variable {D : va_G} {dA dL : ClassId} {ad : Nat → Nat} {A : Nat → Prop} {H0 : Heap} {cn qq : Nat} {mq fq sn al : Nat → Nat} {ow tb us : Nat} {sc bg : Nat → Nat} {ce : Nat → Int64} {ge : Nat → Nat}
set_option maxRecDepth 100000 in
theorem xcL_persons (hC : pp_CX p m c cc nL s args R_law D dA dL) (hw : pp_IX D dA dL ad A H0 cn qq mq fq sn al ow tb us sc bg ce ge H locs)  (hR : pp_RM R cells slots 1 20) (hsz : ls.size = nL) (hrest : (rest.map fun v => v.category).sum ≤ 8) (hdg : decode cc pc = .ok (.invokevirtual 27, 3)) (kk : W p l e R s m args below meth c H locs cells slots Q (F0 m (pc + 3) ls (.int (nI cn) :: rest))) : W p l e R s m args below meth c H locs cells slots Q (F0 m pc ls (.ref (ad 0) :: rest)) := pp_cS_i (n := 0) hC hw.1 hw.2.1 (mX_persons l D dA dL ad cn qq mq fq sn al ow tb us sc bg ce ge ) (lw_V q102 q103 q104 q30 q105) (by decide +kernel) rfl rfl rfl hR (va_recv hC.2 hw.1 (ci := 0) (q0 := 0) rfl rfl) hsz hrest hdg rfl (fun r h => by rw [h]; exact kk)
end PC_X_persons
set_option maxHeartbeats 4000000 in
set_option maxRecDepth 100000 in
theorem mX_frequency (l : Launch) (D : va_G) (dA dL : ClassId) (ad : Nat → Nat) (cn qq : Nat) (mq fq sn al : Nat → Nat) (ow tb us : Nat) (sc bg : Nat → Nat) (ce : Nat → Int64) (ge : Nat → Nat) (x : Int32) : Met l yX0_frequency (ws_ yX0_frequency cX0_frequency 3 (some .int)) ({ frames := 0, cells := 0, slots := 0, locals := 0 } : Room) (pp_Pc D dA dL (pp_WX dA dL ad cn qq mq fq sn al ow tb us sc bg ce ge) [.ref (ad 0), .int x]) (va_Qi (fun (z0 : Int32) (u : Nat) => (z0, u) = pp_ffreq qq x) (fun u t => va_P D vwCl ((fun (u : Nat) => pp_WX dA dL ad cn u mq fq sn al ow tb us sc bg ce ge) u) t.heap) (pp_AX ad)) 0 0 (pp_AX ad) := by
  refine pp_ofX (by decide) rfl (Nat.le_of_ble_eq_true rfl) ?_
  intro p e s m below meth c ls hC hr hlocks hw hl
  have hx := hC.1.1
  have hb := hC.1.2.1
  have hl : lv_has ls 3 [(0, .ref (ad 0)), (1, .int x)] := hl
  refine lv_iload_n hx hb dX0_frequency_0 rfl (lv_at hl 1 rfl) ?_
  refine lv_if_lt (tgt := 10) hx hb dX0_frequency_1 (by decide) (fun h1 => ?_) (fun h1 => ?_)
  · refine lv_iconst (v := (-1)) hx hb dX0_frequency_10 (by decide) ?_
    exact pp_rQ_i (F := fun (u : Nat) => pp_WX dA dL ad cn u mq fq sn al ow tb us sc bg ce ge) hx hb hr hlocks dX0_frequency_11 qq (by show (_, _) = pp_ffreq qq x; unfold pp_ffreq; rw [if_neg]; rintro ⟨a, b⟩; first | exact a h1 | exact h2 b) hw.1 hw.2.2
  · refine lv_iload_n hx hb dX0_frequency_4 rfl (lv_at hl 1 rfl) ?_
    refine lv_bipush (v := (nI 16)) hx hb dX0_frequency_5 (by decide) ?_
    refine lv_icmp_le (tgt := 12) hx hb dX0_frequency_7 (by decide) (fun h2 => ?_) (fun h2 => ?_)
    · refine lv_aload_n hx hb dX0_frequency_12 rfl (lv_at hl 0 rfl) ?_
      refine xg_qq hC hw dX0_frequency_13 ?_
      refine lv_istore_n (lv' := [(2, .int (nI qq)), (0, .ref (ad 0)), (1, .int x)]) hx hb dX0_frequency_16 rfl hl (by decide) rfl (fun ls hl => ?_)
      refine lv_aload_n hx hb dX0_frequency_17 rfl (lv_at hl 1 rfl) ?_
      refine lv_iload_n hx hb dX0_frequency_18 rfl (lv_at hl 2 rfl) ?_
      refine nr_top (y := (nI (pp_j x))) (pp_jI h1) ?_
      refine xp_qq hC hw dX0_frequency_19 (fun H locs hw => ?_)
      refine lv_iload_n hx hb dX0_frequency_22 rfl (lv_at hl 0 rfl) ?_
      exact pp_rQ_i (F := fun (u : Nat) => pp_WX dA dL ad cn u mq fq sn al ow tb us sc bg ce ge) hx hb hr hlocks dX0_frequency_23 (pp_j x) (by show (_, _) = pp_ffreq qq x; rw [pp_ffreq, if_pos ⟨h1, h2⟩]) hw.1 hw.2.2
    · refine lv_iconst (v := (-1)) hx hb dX0_frequency_10 (by decide) ?_
      exact pp_rQ_i (F := fun (u : Nat) => pp_WX dA dL ad cn u mq fq sn al ow tb us sc bg ce ge) hx hb hr hlocks dX0_frequency_11 qq (by show (_, _) = pp_ffreq qq x; unfold pp_ffreq; rw [if_neg]; rintro ⟨a, b⟩; first | exact a h1 | exact h2 b) hw.1 hw.2.2
section PC_X_frequency
variable {p : Program} {l : Launch} {e : Env} {R : Room} {s : State} {m : MethodId} {args : Array Value} {below : List Frame} {meth : Method} {c : Code} {H : Heap} {locs : List Loc} {cells slots : Nat} {Q : State → Prop}
variable {cc : ByteArray} {pc nL : Nat} {ls : Array Slot} {rest : List Value}
variable {D : va_G} {dA dL : ClassId} {ad : Nat → Nat} {A : Nat → Prop} {H0 : Heap} {cn qq : Nat} {mq fq sn al : Nat → Nat} {ow tb us : Nat} {sc bg : Nat → Nat} {ce : Nat → Int64} {ge : Nat → Nat}
set_option maxRecDepth 100000 in
theorem xcL_frequency (hC : pp_CX p m c cc nL s args R_law D dA dL) (hw : pp_IX D dA dL ad A H0 cn qq mq fq sn al ow tb us sc bg ce ge H locs) {x : Int32} (hR : pp_RM R cells slots 1 22) (hsz : ls.size = nL) (hrest : (rest.map fun v => v.category).sum ≤ 8) (hdg : decode cc pc = .ok (.invokevirtual 31, 3)) (kk : ∀ (r : Int32) (u : Nat) (H1 : Heap) (locs1 : List Loc), (fun (z0 : Int32) (u : Nat) => (z0, u) = pp_ffreq qq x) r u → pp_IX D dA dL ad A H0 cn u mq fq sn al ow tb us sc bg ce ge H1 locs1 → (∀ q : Nat, q < H.size → ¬ pp_AX ad q → H1[q]? = H[q]?) → W p l e R s m args below meth c H1 locs1 cells slots Q (F0 m (pc + 3) ls (.int r :: rest))) : W p l e R s m args below meth c H locs cells slots Q (F0 m pc ls (.int x :: .ref (ad 0) :: rest)) := pp_cQ_i (n := 1) (F := fun (u : Nat) => pp_WX dA dL ad cn u mq fq sn al ow tb us sc bg ce ge) hC hw.1 hw.2.1 hw.2.2 (mX_frequency l D dA dL ad cn qq mq fq sn al ow tb us sc bg ce ge x) (pp_D_all hw.2.1 rfl) (lw_V q106 q107 q108 q30 q109) (by decide +kernel) rfl rfl rfl hR (va_recv hC.2 hw.1 (ci := 0) (q0 := 0) rfl rfl) hsz hrest hdg rfl (fun r u H1 l1 h hP hS hk => kk r u H1 l1 h ⟨hP, pp_D_addr hw.2.1 rfl, hS⟩ hk)
end PC_X_frequency
set_option maxHeartbeats 4000000 in
set_option maxRecDepth 100000 in
theorem mX_see (l : Launch) (D : va_G) (dA dL : ClassId) (ad : Nat → Nat) (cn qq : Nat) (mq fq sn al : Nat → Nat) (ow tb us : Nat) (sc bg : Nat → Nat) (ce : Nat → Int64) (ge : Nat → Nat) (x : Int32) (y : Int32) (z : Int32) (hcn : cn ≤ 7) : Met l yX0_see (ws_ yX0_see cX0_see 5 (some .int)) ({ frames := 1, cells := 0, slots := 0, locals := 23 } : Room) (pp_Pc D dA dL (pp_WX dA dL ad cn qq mq fq sn al ow tb us sc bg ce ge) [.ref (ad 0), .int x, .int y, .int z]) (va_Qi (fun (z0 : Int32) (u : Nat → Nat) => (z0, u) = pp_fsee cn sn x y z) (fun u t => va_P D vwCl ((fun (u : Nat → Nat) => pp_WX dA dL ad cn qq mq fq u al ow tb us sc bg ce ge) u) t.heap) (pp_AX ad)) 0 0 (pp_AX ad) := by
  refine pp_ofX (by decide) rfl (Nat.le_of_ble_eq_true rfl) ?_
  intro p e s m below meth c ls hC hr hlocks hw hl
  have hx := hC.1.1
  have hb := hC.1.2.1
  have hl : lv_has ls 5 [(0, .ref (ad 0)), (1, .int x), (2, .int y), (3, .int z)] := hl
  have hR : pp_RM ({ frames := 1, cells := 0, slots := 0, locals := 23 } : Room) 0 0 1 23 := ⟨Nat.le_of_ble_eq_true rfl, Nat.le_of_ble_eq_true rfl, Nat.le_of_ble_eq_true rfl, Nat.le_of_ble_eq_true rfl⟩
  refine lv_aload_n hx hb dX0_see_0 rfl (lv_at hl 0 rfl) ?_
  refine lv_iload_n hx hb dX0_see_1 rfl (lv_at hl 1 rfl) ?_
  refine xc_bad  hC hw  (hR.le (by decide) (by decide)) hl.1 (Nat.le_of_ble_eq_true rfl) dX0_see_2 ?_
  refine nr_z_ne (tgt := 25) hx hb dX0_see_5 (by decide) (by have := pp_bad_lt cn x; omega) (fun h1 => ?_) (fun h1 => ?_)
  · refine lv_iconst (v := (-1)) hx hb dX0_see_25 (by decide) ?_
    exact pp_rQ_i (F := fun (u : Nat → Nat) => pp_WX dA dL ad cn qq mq fq u al ow tb us sc bg ce ge) hx hb hr hlocks dX0_see_26 sn (by show (_, _) = pp_fsee _ _ _ _ _; unfold pp_fsee; rw [if_neg]; rintro ⟨a, b, c, d⟩; first | omega | exact c h3 | exact h4 d) hw.1 hw.2.2
  · refine lv_aload_n hx hb dX0_see_8 rfl (lv_at hl 0 rfl) ?_
    refine lv_iload_n hx hb dX0_see_9 rfl (lv_at hl 2 rfl) ?_
    refine xc_badGenotype  hC hw  (hR.le (by decide) (by decide)) hl.1 (Nat.le_of_ble_eq_true rfl) dX0_see_10 ?_
    refine nr_z_ne (tgt := 25) hx hb dX0_see_13 (by decide) (by have := pp_bdg_lt y; omega) (fun h2 => ?_) (fun h2 => ?_)
    · refine lv_iconst (v := (-1)) hx hb dX0_see_25 (by decide) ?_
      exact pp_rQ_i (F := fun (u : Nat → Nat) => pp_WX dA dL ad cn qq mq fq u al ow tb us sc bg ce ge) hx hb hr hlocks dX0_see_26 sn (by show (_, _) = pp_fsee _ _ _ _ _; unfold pp_fsee; rw [if_neg]; rintro ⟨a, b, c, d⟩; first | omega | exact c h3 | exact h4 d) hw.1 hw.2.2
    · refine lv_iload_n hx hb dX0_see_16 rfl (lv_at hl 3 rfl) ?_
      refine lv_if_lt (tgt := 25) hx hb dX0_see_17 (by decide) (fun h3 => ?_) (fun h3 => ?_)
      · refine lv_iconst (v := (-1)) hx hb dX0_see_25 (by decide) ?_
        exact pp_rQ_i (F := fun (u : Nat → Nat) => pp_WX dA dL ad cn qq mq fq u al ow tb us sc bg ce ge) hx hb hr hlocks dX0_see_26 sn (by show (_, _) = pp_fsee _ _ _ _ _; unfold pp_fsee; rw [if_neg]; rintro ⟨a, b, c, d⟩; first | omega | exact c h3 | exact h4 d) hw.1 hw.2.2
      · refine lv_iload_n hx hb dX0_see_20 rfl (lv_at hl 3 rfl) ?_
        refine lv_iconst (v := (nI 5)) hx hb dX0_see_21 (by decide) ?_
        refine lv_icmp_le (tgt := 27) hx hb dX0_see_22 (by decide) (fun h4 => ?_) (fun h4 => ?_)
        · refine lv_aload_n hx hb dX0_see_27 rfl (lv_at hl 0 rfl) ?_
          refine xg_sn hC hw dX0_see_28 ?_
          refine lv_iload_n hx hb dX0_see_31 rfl (lv_at hl 1 rfl) ?_
          refine nr_top (y := (nI (pp_j x))) (pp_bad_0 h1 hcn).1 ?_
          refine lv_iconst (v := (nI 3)) hx hb dX0_see_32 (by decide) ?_
          refine nr_mul hx hb dX0_see_33 ?_
          refine lv_iload_n hx hb dX0_see_34 rfl (lv_at hl 2 rfl) ?_
          refine nr_top (y := (nI (pp_j y))) (pp_bdg_0 h2).1 ?_
          refine nr_add hx hb dX0_see_35 ?_
          refine nr_top (y := (nI (3 * pp_j x + pp_j y))) (by rw [Nat.mul_comm]) ?_
          refine xl_sn hC hw (by have := (pp_bad_0 h1 hcn).2; have := (pp_bdg_0 h2).2; omega) dX0_see_36 ?_
          refine lv_istore (lv' := [(4, .int (nI (sn (3 * pp_j x + pp_j y)))), (0, .ref (ad 0)), (1, .int x), (2, .int y), (3, .int z)]) hx hb dX0_see_37 hl (by decide) rfl (fun ls hl => ?_)
          refine lv_aload_n hx hb dX0_see_39 rfl (lv_at hl 1 rfl) ?_
          refine xg_sn hC hw dX0_see_40 ?_
          refine lv_iload_n hx hb dX0_see_43 rfl (lv_at hl 2 rfl) ?_
          refine nr_top (y := (nI (pp_j x))) (pp_bad_0 h1 hcn).1 ?_
          refine lv_iconst (v := (nI 3)) hx hb dX0_see_44 (by decide) ?_
          refine nr_mul hx hb dX0_see_45 ?_
          refine lv_iload_n hx hb dX0_see_46 rfl (lv_at hl 3 rfl) ?_
          refine nr_top (y := (nI (pp_j y))) (pp_bdg_0 h2).1 ?_
          refine nr_add hx hb dX0_see_47 ?_
          refine nr_top (y := (nI (3 * pp_j x + pp_j y))) (by rw [Nat.mul_comm]) ?_
          refine lv_iload_n hx hb dX0_see_48 rfl (lv_at hl 4 rfl) ?_
          refine nr_top (y := (nI (pp_j z))) (pp_jI h3) ?_
          refine xs_sn hC hw (by have := (pp_bad_0 h1 hcn).2; have := (pp_bdg_0 h2).2; omega) dX0_see_49 (fun H locs hw => ?_)
          refine lv_iload hx hb dX0_see_50 (lv_at hl 0 rfl) ?_
          exact pp_rQ_i (F := fun (u : Nat → Nat) => pp_WX dA dL ad cn qq mq fq u al ow tb us sc bg ce ge) hx hb hr hlocks dX0_see_52 (va_up sn (3 * pp_j x + pp_j y) (pp_j z)) (by show (_, _) = pp_fsee _ _ _ _ _; rw [pp_fsee, if_pos ⟨h1, h2, h3, h4⟩]) hw.1 hw.2.2
        · refine lv_iconst (v := (-1)) hx hb dX0_see_25 (by decide) ?_
          exact pp_rQ_i (F := fun (u : Nat → Nat) => pp_WX dA dL ad cn qq mq fq u al ow tb us sc bg ce ge) hx hb hr hlocks dX0_see_26 sn (by show (_, _) = pp_fsee _ _ _ _ _; unfold pp_fsee; rw [if_neg]; rintro ⟨a, b, c, d⟩; first | omega | exact c h3 | exact h4 d) hw.1 hw.2.2
section PC_X_see
variable {p : Program} {l : Launch} {e : Env} {R : Room} {s : State} {m : MethodId} {args : Array Value} {below : List Frame} {meth : Method} {c : Code} {H : Heap} {locs : List Loc} {cells slots : Nat} {Q : State → Prop}
variable {cc : ByteArray} {pc nL : Nat} {ls : Array Slot} {rest : List Value}
variable {D : va_G} {dA dL : ClassId} {ad : Nat → Nat} {A : Nat → Prop} {H0 : Heap} {cn qq : Nat} {mq fq sn al : Nat → Nat} {ow tb us : Nat} {sc bg : Nat → Nat} {ce : Nat → Int64} {ge : Nat → Nat}
set_option maxRecDepth 100000 in
theorem xcL_see (hC : pp_CX p m c cc nL s args R_law D dA dL) (hw : pp_IX D dA dL ad A H0 cn qq mq fq sn al ow tb us sc bg ce ge H locs) {x : Int32} {y : Int32} {z : Int32} (hcn : cn ≤ 7) (hR : pp_RM R cells slots 2 47) (hsz : ls.size = nL) (hrest : (rest.map fun v => v.category).sum ≤ 8) (hdg : decode cc pc = .ok (.invokevirtual 36, 3)) (kk : ∀ (r : Int32) (u : Nat → Nat) (H1 : Heap) (locs1 : List Loc), (fun (z0 : Int32) (u : Nat → Nat) => (z0, u) = pp_fsee cn sn x y z) r u → pp_IX D dA dL ad A H0 cn qq mq fq u al ow tb us sc bg ce ge H1 locs1 → (∀ q : Nat, q < H.size → ¬ pp_AX ad q → H1[q]? = H[q]?) → W p l e R s m args below meth c H1 locs1 cells slots Q (F0 m (pc + 3) ls (.int r :: rest))) : W p l e R s m args below meth c H locs cells slots Q (F0 m pc ls (.int z :: .int y :: .int x :: .ref (ad 0) :: rest)) := pp_cQ_i (n := 3) (F := fun (u : Nat → Nat) => pp_WX dA dL ad cn qq mq fq u al ow tb us sc bg ce ge) hC hw.1 hw.2.1 hw.2.2 (mX_see l D dA dL ad cn qq mq fq sn al ow tb us sc bg ce ge x y z hcn) (pp_D_all hw.2.1 rfl) (lw_V q110 q111 q112 q30 q113) (by decide +kernel) rfl rfl rfl hR (va_recv hC.2 hw.1 (ci := 0) (q0 := 0) rfl rfl) hsz hrest hdg rfl (fun r u H1 l1 h hP hS hk => kk r u H1 l1 h ⟨hP, pp_D_addr hw.2.1 rfl, hS⟩ hk)
end PC_X_see
set_option maxHeartbeats 4000000 in
set_option maxRecDepth 100000 in
theorem mX_seen (l : Launch) (D : va_G) (dA dL : ClassId) (ad : Nat → Nat) (cn qq : Nat) (mq fq sn al : Nat → Nat) (ow tb us : Nat) (sc bg : Nat → Nat) (ce : Nat → Int64) (ge : Nat → Nat) (x : Int32) (y : Int32) (hcn : cn ≤ 7) : Met l yX0_seen (ws_ yX0_seen cX0_seen 3 (some .int)) ({ frames := 1, cells := 0, slots := 0, locals := 23 } : Room) (pp_Pc D dA dL (pp_WX dA dL ad cn qq mq fq sn al ow tb us sc bg ce ge) [.ref (ad 0), .int x, .int y]) (vp_Si (fun z0 => z0 = (pp_fseen cn sn x y))) 0 0 (fun _ => False) := by
  refine pp_ofX (by decide) rfl (Nat.le_of_ble_eq_true rfl) ?_
  intro p e s m below meth c ls hC hr hlocks hw hl
  have hx := hC.1.1
  have hb := hC.1.2.1
  have hl : lv_has ls 3 [(0, .ref (ad 0)), (1, .int x), (2, .int y)] := hl
  have hR : pp_RM ({ frames := 1, cells := 0, slots := 0, locals := 23 } : Room) 0 0 1 23 := ⟨Nat.le_of_ble_eq_true rfl, Nat.le_of_ble_eq_true rfl, Nat.le_of_ble_eq_true rfl, Nat.le_of_ble_eq_true rfl⟩
  refine lv_aload_n hx hb dX0_seen_0 rfl (lv_at hl 0 rfl) ?_
  refine lv_iload_n hx hb dX0_seen_1 rfl (lv_at hl 1 rfl) ?_
  refine xc_bad  hC hw  (hR.le (by decide) (by decide)) hl.1 (Nat.le_of_ble_eq_true rfl) dX0_seen_2 ?_
  refine nr_z_ne (tgt := 16) hx hb dX0_seen_5 (by decide) (by have := pp_bad_lt cn x; omega) (fun h1 => ?_) (fun h1 => ?_)
  · refine lv_iconst (v := (-1)) hx hb dX0_seen_16 (by decide) ?_
    exact pp_rS_i hx hb hr hlocks dX0_seen_17 (by unfold pp_fseen; rw [if_neg]; rintro ⟨a, b⟩; omega)
  · refine lv_aload_n hx hb dX0_seen_8 rfl (lv_at hl 0 rfl) ?_
    refine lv_iload_n hx hb dX0_seen_9 rfl (lv_at hl 2 rfl) ?_
    refine xc_badGenotype  hC hw  (hR.le (by decide) (by decide)) hl.1 (Nat.le_of_ble_eq_true rfl) dX0_seen_10 ?_
    refine nr_z_eq (tgt := 18) hx hb dX0_seen_13 (by decide) (by have := pp_bdg_lt y; omega) (fun h2 => ?_) (fun h2 => ?_)
    · refine lv_aload_n hx hb dX0_seen_18 rfl (lv_at hl 0 rfl) ?_
      refine xg_sn hC hw dX0_seen_19 ?_
      refine lv_iload_n hx hb dX0_seen_22 rfl (lv_at hl 1 rfl) ?_
      refine nr_top (y := (nI (pp_j x))) (pp_bad_0 h1 hcn).1 ?_
      refine lv_iconst (v := (nI 3)) hx hb dX0_seen_23 (by decide) ?_
      refine nr_mul hx hb dX0_seen_24 ?_
      refine lv_iload_n hx hb dX0_seen_25 rfl (lv_at hl 2 rfl) ?_
      refine nr_top (y := (nI (pp_j y))) (pp_bdg_0 h2).1 ?_
      refine nr_add hx hb dX0_seen_26 ?_
      refine nr_top (y := (nI (3 * pp_j x + pp_j y))) (by rw [Nat.mul_comm]) ?_
      refine xl_sn hC hw (by have := (pp_bad_0 h1 hcn).2; have := (pp_bdg_0 h2).2; omega) dX0_seen_27 ?_
      exact pp_rS_i hx hb hr hlocks dX0_seen_28 (by rw [pp_fseen, if_pos ⟨h1, h2⟩])
    · refine lv_iconst (v := (-1)) hx hb dX0_seen_16 (by decide) ?_
      exact pp_rS_i hx hb hr hlocks dX0_seen_17 (by unfold pp_fseen; rw [if_neg]; rintro ⟨a, b⟩; omega)
section PC_X_seen
variable {p : Program} {l : Launch} {e : Env} {R : Room} {s : State} {m : MethodId} {args : Array Value} {below : List Frame} {meth : Method} {c : Code} {H : Heap} {locs : List Loc} {cells slots : Nat} {Q : State → Prop}
variable {cc : ByteArray} {pc nL : Nat} {ls : Array Slot} {rest : List Value}
variable {D : va_G} {dA dL : ClassId} {ad : Nat → Nat} {A : Nat → Prop} {H0 : Heap} {cn qq : Nat} {mq fq sn al : Nat → Nat} {ow tb us : Nat} {sc bg : Nat → Nat} {ce : Nat → Int64} {ge : Nat → Nat}
set_option maxRecDepth 100000 in
theorem xcL_seen (hC : pp_CX p m c cc nL s args R_law D dA dL) (hw : pp_IX D dA dL ad A H0 cn qq mq fq sn al ow tb us sc bg ce ge H locs) {x : Int32} {y : Int32} (hcn : cn ≤ 7) (hR : pp_RM R cells slots 2 45) (hsz : ls.size = nL) (hrest : (rest.map fun v => v.category).sum ≤ 8) (hdg : decode cc pc = .ok (.invokevirtual 41, 3)) (kk : W p l e R s m args below meth c H locs cells slots Q (F0 m (pc + 3) ls (.int (pp_fseen cn sn x y) :: rest))) : W p l e R s m args below meth c H locs cells slots Q (F0 m pc ls (.int y :: .int x :: .ref (ad 0) :: rest)) := pp_cS_i (n := 2) hC hw.1 hw.2.1 (mX_seen l D dA dL ad cn qq mq fq sn al ow tb us sc bg ce ge x y hcn) (lw_V q118 q119 q120 q30 q121) (by decide +kernel) rfl rfl rfl hR (va_recv hC.2 hw.1 (ci := 0) (q0 := 0) rfl rfl) hsz hrest hdg rfl (fun r h => by rw [h]; exact kk)
end PC_X_seen
end
section
set_option maxHeartbeats 4000000 in
set_option maxRecDepth 100000 in
theorem mX_likelihood (l : Launch) (D : va_G) (dA dL : ClassId) (ad : Nat → Nat) (cn qq : Nat) (mq fq sn al : Nat → Nat) (ow tb us : Nat) (sc bg : Nat → Nat) (ce : Nat → Int64) (ge : Nat → Nat) (hok : pp_ok cn qq mq fq sn) (hG : pp_G ge) : Met l yX0_likelihood (ws_ yX0_likelihood cX0_likelihood 1 (some .long)) ({ frames := 4, cells := 0, slots := 0, locals := 105 } : Room) (pp_Pc D dA dL (pp_WX dA dL ad cn qq mq fq sn al ow tb us sc bg ce ge) [.ref (ad 0)]) (va_Ql (fun (z0 : Int64) (u : (Nat → Nat) × Nat × Nat × Nat × (Nat → Nat) × (Nat → Nat) × (Nat → Int64) × (Nat → Nat)) => z0 = pp_xlik cn qq mq fq sn ∧ pp_G u.2.2.2.2.2.2.2) (fun u t => va_P D vwCl ((fun (u : (Nat → Nat) × Nat × Nat × Nat × (Nat → Nat) × (Nat → Nat) × (Nat → Int64) × (Nat → Nat)) => pp_WX dA dL ad cn qq mq fq sn (u.1) (u.2.1) (u.2.2.1) (u.2.2.2.1) (u.2.2.2.2.1) (u.2.2.2.2.2.1) (u.2.2.2.2.2.2.1) (u.2.2.2.2.2.2.2)) u) t.heap) (pp_AX ad)) 0 0 (pp_AX ad) := by
  refine pp_ofX (by decide) rfl (Nat.le_of_ble_eq_true rfl) ?_
  intro p e s m below meth c ls hC hr hlocks hw hl
  have hx := hC.1.1
  have hb := hC.1.2.1
  have hl : lv_has ls 1 [(0, .ref (ad 0))] := hl
  have hR : pp_RM ({ frames := 4, cells := 0, slots := 0, locals := 105 } : Room) 0 0 4 105 := ⟨Nat.le_of_ble_eq_true rfl, Nat.le_of_ble_eq_true rfl, Nat.le_of_ble_eq_true rfl, Nat.le_of_ble_eq_true rfl⟩
  refine lv_aload_n hx hb dX0_likelihood_0 rfl (lv_at hl 0 rfl) ?_
  refine xc_allowAll  hC hw  (hR.le (by decide) (by decide)) hl.1 (Nat.le_of_ble_eq_true rfl) dX0_likelihood_1 (fun H locs hw hk => ?_)
  refine lv_aload_n hx hb dX0_likelihood_4 rfl (lv_at hl 0 rfl) ?_
  refine xc_sum hC hw hok pp_al7_lt (by decide) hG (hR.le (by decide) (by decide)) hl.1 (Nat.le_of_ble_eq_true rfl) dX0_likelihood_5 (fun r u H locs hru hw hk => ?_)
  exact pp_rQ_l (F := fun (u : (Nat → Nat) × Nat × Nat × Nat × (Nat → Nat) × (Nat → Nat) × (Nat → Int64) × (Nat → Nat)) => pp_WX dA dL ad cn qq mq fq sn (u.1) (u.2.1) (u.2.2.1) (u.2.2.2.1) (u.2.2.2.2.1) (u.2.2.2.2.2.1) (u.2.2.2.2.2.2.1) (u.2.2.2.2.2.2.2)) hx hb hr hlocks dX0_likelihood_8 (pp_al7 al 7, 0, u) ⟨by rw [hru.1]; exact pp_tot_congr (fun t ht => by have := hok.1; unfold pp_al7; rw [if_pos (by omega)]), hru.2⟩ hw.1 hw.2.2
section PC_X_likelihood
variable {p : Program} {l : Launch} {e : Env} {R : Room} {s : State} {m : MethodId} {args : Array Value} {below : List Frame} {meth : Method} {c : Code} {H : Heap} {locs : List Loc} {cells slots : Nat} {Q : State → Prop}
variable {cc : ByteArray} {pc nL : Nat} {ls : Array Slot} {rest : List Value}
variable {D : va_G} {dA dL : ClassId} {ad : Nat → Nat} {A : Nat → Prop} {H0 : Heap} {cn qq : Nat} {mq fq sn al : Nat → Nat} {ow tb us : Nat} {sc bg : Nat → Nat} {ce : Nat → Int64} {ge : Nat → Nat}
set_option maxRecDepth 100000 in
theorem xcL_likelihood (hC : pp_CX p m c cc nL s args R_law D dA dL) (hw : pp_IX D dA dL ad A H0 cn qq mq fq sn al ow tb us sc bg ce ge H locs) (hok : pp_ok cn qq mq fq sn) (hG : pp_G ge) (hR : pp_RM R cells slots 5 125) (hsz : ls.size = nL) (hrest : (rest.map fun v => v.category).sum ≤ 8) (hdg : decode cc pc = .ok (.invokevirtual 45, 3)) (kk : ∀ (r : Int64) (u : (Nat → Nat) × Nat × Nat × Nat × (Nat → Nat) × (Nat → Nat) × (Nat → Int64) × (Nat → Nat)) (H1 : Heap) (locs1 : List Loc), (fun (z0 : Int64) (u : (Nat → Nat) × Nat × Nat × Nat × (Nat → Nat) × (Nat → Nat) × (Nat → Int64) × (Nat → Nat)) => z0 = pp_xlik cn qq mq fq sn ∧ pp_G u.2.2.2.2.2.2.2) r u → pp_IX D dA dL ad A H0 cn qq mq fq sn (u.1) (u.2.1) (u.2.2.1) (u.2.2.2.1) (u.2.2.2.2.1) (u.2.2.2.2.2.1) (u.2.2.2.2.2.2.1) (u.2.2.2.2.2.2.2) H1 locs1 → (∀ q : Nat, q < H.size → ¬ pp_AX ad q → H1[q]? = H[q]?) → W p l e R s m args below meth c H1 locs1 cells slots Q (F0 m (pc + 3) ls (.long r :: rest))) : W p l e R s m args below meth c H locs cells slots Q (F0 m pc ls (.ref (ad 0) :: rest)) := pp_cQ_l (n := 0) (F := fun (u : (Nat → Nat) × Nat × Nat × Nat × (Nat → Nat) × (Nat → Nat) × (Nat → Int64) × (Nat → Nat)) => pp_WX dA dL ad cn qq mq fq sn (u.1) (u.2.1) (u.2.2.1) (u.2.2.2.1) (u.2.2.2.2.1) (u.2.2.2.2.2.1) (u.2.2.2.2.2.2.1) (u.2.2.2.2.2.2.2)) hC hw.1 hw.2.1 hw.2.2 (mX_likelihood l D dA dL ad cn qq mq fq sn al ow tb us sc bg ce ge hok hG) (pp_D_all hw.2.1 rfl) (lw_V q122 q123 q124 q30 q125) (by decide +kernel) rfl rfl rfl hR (va_recv hC.2 hw.1 (ci := 0) (q0 := 0) rfl rfl) hsz hrest hdg rfl (fun r u H1 l1 h hP hS hk => kk r u H1 l1 h ⟨hP, pp_D_addr hw.2.1 rfl, hS⟩ hk)
end PC_X_likelihood
set_option maxHeartbeats 4000000 in
set_option maxRecDepth 100000 in
theorem mX_share (l : Launch) (D : va_G) (dA dL : ClassId) (ad : Nat → Nat) (cn qq : Nat) (mq fq sn al : Nat → Nat) (ow tb us : Nat) (sc bg : Nat → Nat) (ce : Nat → Int64) (ge : Nat → Nat) (x : Int32) (y : Int32) (hok : pp_ok cn qq mq fq sn) (hG : pp_G ge) : Met l yX0_share (ws_ yX0_share cX0_share 3 (some .long)) ({ frames := 4, cells := 0, slots := 0, locals := 105 } : Room) (pp_Pc D dA dL (pp_WX dA dL ad cn qq mq fq sn al ow tb us sc bg ce ge) [.ref (ad 0), .int x, .int y]) (va_Ql (fun (z0 : Int64) (u : (Nat → Nat) × Nat × Nat × Nat × (Nat → Nat) × (Nat → Nat) × (Nat → Int64) × (Nat → Nat)) => z0 = pp_xshare cn qq mq fq sn x y ∧ pp_G u.2.2.2.2.2.2.2) (fun u t => va_P D vwCl ((fun (u : (Nat → Nat) × Nat × Nat × Nat × (Nat → Nat) × (Nat → Nat) × (Nat → Int64) × (Nat → Nat)) => pp_WX dA dL ad cn qq mq fq sn (u.1) (u.2.1) (u.2.2.1) (u.2.2.2.1) (u.2.2.2.2.1) (u.2.2.2.2.2.1) (u.2.2.2.2.2.2.1) (u.2.2.2.2.2.2.2)) u) t.heap) (pp_AX ad)) 0 0 (pp_AX ad) := by
  refine pp_ofX (by decide) rfl (Nat.le_of_ble_eq_true rfl) ?_
  intro p e s m below meth c ls hC hr hlocks hw hl
  have hx := hC.1.1
  have hb := hC.1.2.1
  have hl : lv_has ls 3 [(0, .ref (ad 0)), (1, .int x), (2, .int y)] := hl
  have hR : pp_RM ({ frames := 4, cells := 0, slots := 0, locals := 105 } : Room) 0 0 4 105 := ⟨Nat.le_of_ble_eq_true rfl, Nat.le_of_ble_eq_true rfl, Nat.le_of_ble_eq_true rfl, Nat.le_of_ble_eq_true rfl⟩
  have hcn := hok.1
  refine lv_aload_n hx hb dX0_share_0 rfl (lv_at hl 0 rfl) ?_
  refine lv_iload_n hx hb dX0_share_1 rfl (lv_at hl 1 rfl) ?_
  refine xc_bad  hC hw  (hR.le (by decide) (by decide)) hl.1 (Nat.le_of_ble_eq_true rfl) dX0_share_2 ?_
  refine nr_z_ne (tgt := 16) hx hb dX0_share_5 (by decide) (by have := pp_bad_lt cn x; omega) (fun h1 => ?_) (fun h1 => ?_)
  · refine lv_lconst (v := 0) hx hb dX0_share_16 (by decide) ?_
    exact pp_rQ_l (F := fun (u : (Nat → Nat) × Nat × Nat × Nat × (Nat → Nat) × (Nat → Nat) × (Nat → Int64) × (Nat → Nat)) => pp_WX dA dL ad cn qq mq fq sn (u.1) (u.2.1) (u.2.2.1) (u.2.2.2.1) (u.2.2.2.2.1) (u.2.2.2.2.2.1) (u.2.2.2.2.2.2.1) (u.2.2.2.2.2.2.2)) hx hb hr hlocks dX0_share_17 (al, ow, tb, us, sc, bg, ce, ge) ⟨by rw [pp_xshare, if_neg]; rintro ⟨a, b⟩; omega, hG⟩ hw.1 hw.2.2
  · refine lv_aload_n hx hb dX0_share_8 rfl (lv_at hl 0 rfl) ?_
    refine lv_iload_n hx hb dX0_share_9 rfl (lv_at hl 2 rfl) ?_
    refine xc_badGenotype  hC hw  (hR.le (by decide) (by decide)) hl.1 (Nat.le_of_ble_eq_true rfl) dX0_share_10 ?_
    refine nr_z_eq (tgt := 18) hx hb dX0_share_13 (by decide) (by have := pp_bdg_lt y; omega) (fun h2 => ?_) (fun h2 => ?_)
    · refine lv_aload_n hx hb dX0_share_18 rfl (lv_at hl 0 rfl) ?_
      refine xc_allowAll  hC hw  (hR.le (by decide) (by decide)) hl.1 (Nat.le_of_ble_eq_true rfl) dX0_share_19 (fun H locs hw hk => ?_)
      refine lv_aload_n hx hb dX0_share_22 rfl (lv_at hl 0 rfl) ?_
      refine xg_al hC hw dX0_share_23 ?_
      refine lv_iload_n hx hb dX0_share_26 rfl (lv_at hl 1 rfl) ?_
      refine nr_top (y := (nI (pp_j x))) (pp_bad_0 h1 hcn).1 ?_
      refine lv_iconst (v := (nI 1)) hx hb dX0_share_27 (by decide) ?_
      refine lv_iload_n hx hb dX0_share_28 rfl (lv_at hl 2 rfl) ?_
      refine nr_top (y := (nI (pp_j y))) (pp_bdg_0 h2).1 ?_
      refine nr_shl1 hx hb (by have := (pp_bdg_0 h2).2; omega) dX0_share_29 ?_
      refine xs_al hC hw (by have := (pp_bad_0 h1 hcn).2; omega) dX0_share_30 (fun H locs hw => ?_)
      refine lv_aload_n hx hb dX0_share_31 rfl (lv_at hl 0 rfl) ?_
      refine xc_sum hC hw hok (pp_up_lt pp_al7_lt (pp_pow8 (pp_bdg_0 h2).2)) (by decide) hG (hR.le (by decide) (by decide)) hl.1 (Nat.le_of_ble_eq_true rfl) dX0_share_32 (fun r u H locs hru hw hk => ?_)
      exact pp_rQ_l (F := fun (u : (Nat → Nat) × Nat × Nat × Nat × (Nat → Nat) × (Nat → Nat) × (Nat → Int64) × (Nat → Nat)) => pp_WX dA dL ad cn qq mq fq sn (u.1) (u.2.1) (u.2.2.1) (u.2.2.2.1) (u.2.2.2.2.1) (u.2.2.2.2.2.1) (u.2.2.2.2.2.2.1) (u.2.2.2.2.2.2.2)) hx hb hr hlocks dX0_share_35 (va_up (pp_al7 al 7) (pp_j x) (2 ^ pp_j y), 0, u) ⟨by rw [hru.1, pp_xshare, if_pos ⟨h1, h2⟩]; exact pp_tot_congr (fun t ht => pp_al_sh (by omega)), hru.2⟩ hw.1 hw.2.2
    · refine lv_lconst (v := 0) hx hb dX0_share_16 (by decide) ?_
      exact pp_rQ_l (F := fun (u : (Nat → Nat) × Nat × Nat × Nat × (Nat → Nat) × (Nat → Nat) × (Nat → Int64) × (Nat → Nat)) => pp_WX dA dL ad cn qq mq fq sn (u.1) (u.2.1) (u.2.2.1) (u.2.2.2.1) (u.2.2.2.2.1) (u.2.2.2.2.2.1) (u.2.2.2.2.2.2.1) (u.2.2.2.2.2.2.2)) hx hb hr hlocks dX0_share_17 (al, ow, tb, us, sc, bg, ce, ge) ⟨by rw [pp_xshare, if_neg]; rintro ⟨a, b⟩; omega, hG⟩ hw.1 hw.2.2
section PC_X_share
variable {p : Program} {l : Launch} {e : Env} {R : Room} {s : State} {m : MethodId} {args : Array Value} {below : List Frame} {meth : Method} {c : Code} {H : Heap} {locs : List Loc} {cells slots : Nat} {Q : State → Prop}
variable {cc : ByteArray} {pc nL : Nat} {ls : Array Slot} {rest : List Value}
variable {D : va_G} {dA dL : ClassId} {ad : Nat → Nat} {A : Nat → Prop} {H0 : Heap} {cn qq : Nat} {mq fq sn al : Nat → Nat} {ow tb us : Nat} {sc bg : Nat → Nat} {ce : Nat → Int64} {ge : Nat → Nat}
set_option maxRecDepth 100000 in
theorem xcL_share (hC : pp_CX p m c cc nL s args R_law D dA dL) (hw : pp_IX D dA dL ad A H0 cn qq mq fq sn al ow tb us sc bg ce ge H locs) {x : Int32} {y : Int32} (hok : pp_ok cn qq mq fq sn) (hG : pp_G ge) (hR : pp_RM R cells slots 5 127) (hsz : ls.size = nL) (hrest : (rest.map fun v => v.category).sum ≤ 8) (hdg : decode cc pc = .ok (.invokevirtual 50, 3)) (kk : ∀ (r : Int64) (u : (Nat → Nat) × Nat × Nat × Nat × (Nat → Nat) × (Nat → Nat) × (Nat → Int64) × (Nat → Nat)) (H1 : Heap) (locs1 : List Loc), (fun (z0 : Int64) (u : (Nat → Nat) × Nat × Nat × Nat × (Nat → Nat) × (Nat → Nat) × (Nat → Int64) × (Nat → Nat)) => z0 = pp_xshare cn qq mq fq sn x y ∧ pp_G u.2.2.2.2.2.2.2) r u → pp_IX D dA dL ad A H0 cn qq mq fq sn (u.1) (u.2.1) (u.2.2.1) (u.2.2.2.1) (u.2.2.2.2.1) (u.2.2.2.2.2.1) (u.2.2.2.2.2.2.1) (u.2.2.2.2.2.2.2) H1 locs1 → (∀ q : Nat, q < H.size → ¬ pp_AX ad q → H1[q]? = H[q]?) → W p l e R s m args below meth c H1 locs1 cells slots Q (F0 m (pc + 3) ls (.long r :: rest))) : W p l e R s m args below meth c H locs cells slots Q (F0 m pc ls (.int y :: .int x :: .ref (ad 0) :: rest)) := pp_cQ_l (n := 2) (F := fun (u : (Nat → Nat) × Nat × Nat × Nat × (Nat → Nat) × (Nat → Nat) × (Nat → Int64) × (Nat → Nat)) => pp_WX dA dL ad cn qq mq fq sn (u.1) (u.2.1) (u.2.2.1) (u.2.2.2.1) (u.2.2.2.2.1) (u.2.2.2.2.2.1) (u.2.2.2.2.2.2.1) (u.2.2.2.2.2.2.2)) hC hw.1 hw.2.1 hw.2.2 (mX_share l D dA dL ad cn qq mq fq sn al ow tb us sc bg ce ge x y hok hG) (pp_D_all hw.2.1 rfl) (lw_V q186 q187 q188 q30 q189) (by decide +kernel) rfl rfl rfl hR (va_recv hC.2 hw.1 (ci := 0) (q0 := 0) rfl rfl) hsz hrest hdg rfl (fun r u H1 l1 h hP hS hk => kk r u H1 l1 h ⟨hP, pp_D_addr hw.2.1 rfl, hS⟩ hk)
set_option maxRecDepth 100000 in
theorem xc_share (hC : pp_CX p m c cc nL s args RX0 D dA dL) (hw : pp_IX D dA dL ad A H0 cn qq mq fq sn al ow tb us sc bg ce ge H locs) {x : Int32} {y : Int32} (hok : pp_ok cn qq mq fq sn) (hG : pp_G ge) (hR : pp_RM R cells slots 5 127) (hsz : ls.size = nL) (hrest : (rest.map fun v => v.category).sum ≤ 8) (hdg : decode cc pc = .ok (.invokevirtual 115, 3)) (kk : ∀ (r : Int64) (u : (Nat → Nat) × Nat × Nat × Nat × (Nat → Nat) × (Nat → Nat) × (Nat → Int64) × (Nat → Nat)) (H1 : Heap) (locs1 : List Loc), (fun (z0 : Int64) (u : (Nat → Nat) × Nat × Nat × Nat × (Nat → Nat) × (Nat → Nat) × (Nat → Int64) × (Nat → Nat)) => z0 = pp_xshare cn qq mq fq sn x y ∧ pp_G u.2.2.2.2.2.2.2) r u → pp_IX D dA dL ad A H0 cn qq mq fq sn (u.1) (u.2.1) (u.2.2.1) (u.2.2.2.1) (u.2.2.2.2.1) (u.2.2.2.2.2.1) (u.2.2.2.2.2.2.1) (u.2.2.2.2.2.2.2) H1 locs1 → (∀ q : Nat, q < H.size → ¬ pp_AX ad q → H1[q]? = H[q]?) → W p l e R s m args below meth c H1 locs1 cells slots Q (F0 m (pc + 3) ls (.long r :: rest))) : W p l e R s m args below meth c H locs cells slots Q (F0 m pc ls (.int y :: .int x :: .ref (ad 0) :: rest)) := pp_cQ_l (n := 2) (F := fun (u : (Nat → Nat) × Nat × Nat × Nat × (Nat → Nat) × (Nat → Nat) × (Nat → Int64) × (Nat → Nat)) => pp_WX dA dL ad cn qq mq fq sn (u.1) (u.2.1) (u.2.2.1) (u.2.2.2.1) (u.2.2.2.2.1) (u.2.2.2.2.2.1) (u.2.2.2.2.2.2.1) (u.2.2.2.2.2.2.2)) hC hw.1 hw.2.1 hw.2.2 (mX_share l D dA dL ad cn qq mq fq sn al ow tb us sc bg ce ge x y hok hG) (pp_D_all hw.2.1 rfl) (lw_V q198 q187 q188 q30 q189) (by decide +kernel) rfl rfl rfl hR (va_recv hC.2 hw.1 (ci := 0) (q0 := 0) rfl rfl) hsz hrest hdg rfl (fun r u H1 l1 h hP hS hk => kk r u H1 l1 h ⟨hP, pp_D_addr hw.2.1 rfl, hS⟩ hk)
end PC_X_share
theorem pp_al2_eq {al : Nat → Nat} {j g r h t : Nat} (ht : t < 7) (hr : r < 7) : va_up (va_up (pp_al7 al 7) j (2 ^ g)) r (va_up (pp_al7 al 7) j (2 ^ g) r &&& 2 ^ h) t = pp_al2 j g r h t := by
  unfold pp_al2
  rw [pp_al_sh (t := r) hr]
  by_cases e : t = r
  · subst e; rw [pp_up_self, pp_up_self]
  · rw [pp_up_ne _ _ e, pp_up_ne _ _ e, pp_al_sh ht]
set_option maxHeartbeats 4000000 in
set_option maxRecDepth 100000 in
theorem mX_shareOfTwo (l : Launch) (D : va_G) (dA dL : ClassId) (ad : Nat → Nat) (cn qq : Nat) (mq fq sn al : Nat → Nat) (ow tb us : Nat) (sc bg : Nat → Nat) (ce : Nat → Int64) (ge : Nat → Nat) (x : Int32) (y : Int32) (z : Int32) (v : Int32) (hok : pp_ok cn qq mq fq sn) (hG : pp_G ge) : Met l yX0_shareOfTwo (ws_ yX0_shareOfTwo cX0_shareOfTwo 5 (some .long)) ({ frames := 4, cells := 0, slots := 0, locals := 105 } : Room) (pp_Pc D dA dL (pp_WX dA dL ad cn qq mq fq sn al ow tb us sc bg ce ge) [.ref (ad 0), .int x, .int y, .int z, .int v]) (va_Ql (fun (z0 : Int64) (u : (Nat → Nat) × Nat × Nat × Nat × (Nat → Nat) × (Nat → Nat) × (Nat → Int64) × (Nat → Nat)) => z0 = pp_xtwo cn qq mq fq sn x y z v ∧ pp_G u.2.2.2.2.2.2.2) (fun u t => va_P D vwCl ((fun (u : (Nat → Nat) × Nat × Nat × Nat × (Nat → Nat) × (Nat → Nat) × (Nat → Int64) × (Nat → Nat)) => pp_WX dA dL ad cn qq mq fq sn (u.1) (u.2.1) (u.2.2.1) (u.2.2.2.1) (u.2.2.2.2.1) (u.2.2.2.2.2.1) (u.2.2.2.2.2.2.1) (u.2.2.2.2.2.2.2)) u) t.heap) (pp_AX ad)) 0 0 (pp_AX ad) := by
  refine pp_ofX (by decide) rfl (Nat.le_of_ble_eq_true rfl) ?_
  intro p e s m below meth c ls hC hr hlocks hw hl
  have hx := hC.1.1
  have hb := hC.1.2.1
  have hl : lv_has ls 5 [(0, .ref (ad 0)), (1, .int x), (2, .int y), (3, .int z), (4, .int v)] := hl
  have hR : pp_RM ({ frames := 4, cells := 0, slots := 0, locals := 105 } : Room) 0 0 4 105 := ⟨Nat.le_of_ble_eq_true rfl, Nat.le_of_ble_eq_true rfl, Nat.le_of_ble_eq_true rfl, Nat.le_of_ble_eq_true rfl⟩
  have hcn := hok.1
  refine lv_aload_n hx hb dX0_shareOfTwo_0 rfl (lv_at hl 0 rfl) ?_
  refine lv_iload_n hx hb dX0_shareOfTwo_1 rfl (lv_at hl 1 rfl) ?_
  refine xc_bad  hC hw  (hR.le (by decide) (by decide)) hl.1 (Nat.le_of_ble_eq_true rfl) dX0_shareOfTwo_2 ?_
  refine nr_z_ne (tgt := 33) hx hb dX0_shareOfTwo_5 (by decide) (by have := pp_bad_lt cn x; omega) (fun h1 => ?_) (fun h1 => ?_)
  · refine lv_lconst (v := 0) hx hb dX0_shareOfTwo_33 (by decide) ?_
    exact pp_rQ_l (F := fun (u : (Nat → Nat) × Nat × Nat × Nat × (Nat → Nat) × (Nat → Nat) × (Nat → Int64) × (Nat → Nat)) => pp_WX dA dL ad cn qq mq fq sn (u.1) (u.2.1) (u.2.2.1) (u.2.2.2.1) (u.2.2.2.2.1) (u.2.2.2.2.2.1) (u.2.2.2.2.2.2.1) (u.2.2.2.2.2.2.2)) hx hb hr hlocks dX0_shareOfTwo_34 (al, ow, tb, us, sc, bg, ce, ge) ⟨by rw [pp_xtwo, if_neg]; rintro ⟨a, b, c, d⟩; omega, hG⟩ hw.1 hw.2.2
  · refine lv_aload_n hx hb dX0_shareOfTwo_8 rfl (lv_at hl 0 rfl) ?_
    refine lv_iload_n hx hb dX0_shareOfTwo_9 rfl (lv_at hl 2 rfl) ?_
    refine xc_badGenotype  hC hw  (hR.le (by decide) (by decide)) hl.1 (Nat.le_of_ble_eq_true rfl) dX0_shareOfTwo_10 ?_
    refine nr_z_ne (tgt := 33) hx hb dX0_shareOfTwo_13 (by decide) (by have := pp_bdg_lt y; omega) (fun h2 => ?_) (fun h2 => ?_)
    · refine lv_lconst (v := 0) hx hb dX0_shareOfTwo_33 (by decide) ?_
      exact pp_rQ_l (F := fun (u : (Nat → Nat) × Nat × Nat × Nat × (Nat → Nat) × (Nat → Nat) × (Nat → Int64) × (Nat → Nat)) => pp_WX dA dL ad cn qq mq fq sn (u.1) (u.2.1) (u.2.2.1) (u.2.2.2.1) (u.2.2.2.2.1) (u.2.2.2.2.2.1) (u.2.2.2.2.2.2.1) (u.2.2.2.2.2.2.2)) hx hb hr hlocks dX0_shareOfTwo_34 (al, ow, tb, us, sc, bg, ce, ge) ⟨by rw [pp_xtwo, if_neg]; rintro ⟨a, b, c, d⟩; omega, hG⟩ hw.1 hw.2.2
    · refine lv_aload_n hx hb dX0_shareOfTwo_16 rfl (lv_at hl 0 rfl) ?_
      refine lv_iload_n hx hb dX0_shareOfTwo_17 rfl (lv_at hl 3 rfl) ?_
      refine xc_bad  hC hw  (hR.le (by decide) (by decide)) hl.1 (Nat.le_of_ble_eq_true rfl) dX0_shareOfTwo_18 ?_
      refine nr_z_ne (tgt := 33) hx hb dX0_shareOfTwo_21 (by decide) (by have := pp_bad_lt cn z; omega) (fun h3 => ?_) (fun h3 => ?_)
      · refine lv_lconst (v := 0) hx hb dX0_shareOfTwo_33 (by decide) ?_
        exact pp_rQ_l (F := fun (u : (Nat → Nat) × Nat × Nat × Nat × (Nat → Nat) × (Nat → Nat) × (Nat → Int64) × (Nat → Nat)) => pp_WX dA dL ad cn qq mq fq sn (u.1) (u.2.1) (u.2.2.1) (u.2.2.2.1) (u.2.2.2.2.1) (u.2.2.2.2.2.1) (u.2.2.2.2.2.2.1) (u.2.2.2.2.2.2.2)) hx hb hr hlocks dX0_shareOfTwo_34 (al, ow, tb, us, sc, bg, ce, ge) ⟨by rw [pp_xtwo, if_neg]; rintro ⟨a, b, c, d⟩; omega, hG⟩ hw.1 hw.2.2
      · refine lv_aload_n hx hb dX0_shareOfTwo_24 rfl (lv_at hl 0 rfl) ?_
        refine lv_iload hx hb dX0_shareOfTwo_25 (lv_at hl 4 rfl) ?_
        refine xc_badGenotype  hC hw  (hR.le (by decide) (by decide)) hl.1 (Nat.le_of_ble_eq_true rfl) dX0_shareOfTwo_27 ?_
        refine nr_z_eq (tgt := 35) hx hb dX0_shareOfTwo_30 (by decide) (by have := pp_bdg_lt v; omega) (fun h4 => ?_) (fun h4 => ?_)
        · refine lv_aload_n hx hb dX0_shareOfTwo_35 rfl (lv_at hl 0 rfl) ?_
          refine xc_allowAll  hC hw  (hR.le (by decide) (by decide)) hl.1 (Nat.le_of_ble_eq_true rfl) dX0_shareOfTwo_36 (fun H locs hw hk => ?_)
          refine lv_aload_n hx hb dX0_shareOfTwo_39 rfl (lv_at hl 0 rfl) ?_
          refine xg_al hC hw dX0_shareOfTwo_40 ?_
          refine lv_iload_n hx hb dX0_shareOfTwo_43 rfl (lv_at hl 1 rfl) ?_
          refine nr_top (y := (nI (pp_j x))) (pp_bad_0 h1 hcn).1 ?_
          refine lv_iconst (v := (nI 1)) hx hb dX0_shareOfTwo_44 (by decide) ?_
          refine lv_iload_n hx hb dX0_shareOfTwo_45 rfl (lv_at hl 2 rfl) ?_
          refine nr_top (y := (nI (pp_j y))) (pp_bdg_0 h2).1 ?_
          refine nr_shl1 hx hb (by have := (pp_bdg_0 h2).2; omega) dX0_shareOfTwo_46 ?_
          refine xs_al hC hw (by have := (pp_bad_0 h1 hcn).2; omega) dX0_shareOfTwo_47 (fun H locs hw => ?_)
          refine lv_aload_n hx hb dX0_shareOfTwo_48 rfl (lv_at hl 0 rfl) ?_
          refine xg_al hC hw dX0_shareOfTwo_49 ?_
          refine lv_iload_n hx hb dX0_shareOfTwo_52 rfl (lv_at hl 3 rfl) ?_
          refine nr_top (y := (nI (pp_j z))) (pp_bad_0 h3 hcn).1 ?_
          refine lv_aload_n hx hb dX0_shareOfTwo_53 rfl (lv_at hl 0 rfl) ?_
          refine xg_al hC hw dX0_shareOfTwo_54 ?_
          refine lv_iload_n hx hb dX0_shareOfTwo_57 rfl (lv_at hl 3 rfl) ?_
          refine nr_top (y := (nI (pp_j z))) (pp_bad_0 h3 hcn).1 ?_
          refine xl_al hC hw (by have := (pp_bad_0 h3 hcn).2; omega) dX0_shareOfTwo_58 ?_
          refine lv_iconst (v := (nI 1)) hx hb dX0_shareOfTwo_59 (by decide) ?_
          refine lv_iload hx hb dX0_shareOfTwo_60 (lv_at hl 4 rfl) ?_
          refine nr_top (y := (nI (pp_j v))) (pp_bdg_0 h4).1 ?_
          refine nr_shl1 hx hb (by have := (pp_bdg_0 h4).2; omega) dX0_shareOfTwo_62 ?_
          refine nr_and hx hb dX0_shareOfTwo_63 ?_
          refine xs_al hC hw (by have := (pp_bad_0 h3 hcn).2; omega) dX0_shareOfTwo_64 (fun H locs hw => ?_)
          refine lv_aload_n hx hb dX0_shareOfTwo_65 rfl (lv_at hl 0 rfl) ?_
          refine xc_sum hC hw hok (pp_up_lt (pp_up_lt pp_al7_lt (pp_pow8 (pp_bdg_0 h2).2)) (Nat.lt_of_le_of_lt Nat.and_le_right (pp_pow8 (pp_bdg_0 h4).2))) (by decide) hG (hR.le (by decide) (by decide)) hl.1 (Nat.le_of_ble_eq_true rfl) dX0_shareOfTwo_66 (fun r u H locs hru hw hk => ?_)
          exact pp_rQ_l (F := fun (u : (Nat → Nat) × Nat × Nat × Nat × (Nat → Nat) × (Nat → Nat) × (Nat → Int64) × (Nat → Nat)) => pp_WX dA dL ad cn qq mq fq sn (u.1) (u.2.1) (u.2.2.1) (u.2.2.2.1) (u.2.2.2.2.1) (u.2.2.2.2.2.1) (u.2.2.2.2.2.2.1) (u.2.2.2.2.2.2.2)) hx hb hr hlocks dX0_shareOfTwo_69 (va_up (va_up (pp_al7 al 7) (pp_j x) (2 ^ pp_j y)) (pp_j z) ((va_up (pp_al7 al 7) (pp_j x) (2 ^ pp_j y)) (pp_j z) &&& 2 ^ pp_j v), 0, u) ⟨by rw [hru.1, pp_xtwo, if_pos ⟨h1, h2, h3, h4⟩]; exact pp_tot_congr (fun t ht => pp_al2_eq (by omega) (by have := (pp_bad_0 h3 hcn).2; omega)), hru.2⟩ hw.1 hw.2.2
        · refine lv_lconst (v := 0) hx hb dX0_shareOfTwo_33 (by decide) ?_
          exact pp_rQ_l (F := fun (u : (Nat → Nat) × Nat × Nat × Nat × (Nat → Nat) × (Nat → Nat) × (Nat → Int64) × (Nat → Nat)) => pp_WX dA dL ad cn qq mq fq sn (u.1) (u.2.1) (u.2.2.1) (u.2.2.2.1) (u.2.2.2.2.1) (u.2.2.2.2.2.1) (u.2.2.2.2.2.2.1) (u.2.2.2.2.2.2.2)) hx hb hr hlocks dX0_shareOfTwo_34 (al, ow, tb, us, sc, bg, ce, ge) ⟨by rw [pp_xtwo, if_neg]; rintro ⟨a, b, c, d⟩; omega, hG⟩ hw.1 hw.2.2
section PC_X_shareOfTwo
variable {p : Program} {l : Launch} {e : Env} {R : Room} {s : State} {m : MethodId} {args : Array Value} {below : List Frame} {meth : Method} {c : Code} {H : Heap} {locs : List Loc} {cells slots : Nat} {Q : State → Prop}
variable {cc : ByteArray} {pc nL : Nat} {ls : Array Slot} {rest : List Value}
variable {D : va_G} {dA dL : ClassId} {ad : Nat → Nat} {A : Nat → Prop} {H0 : Heap} {cn qq : Nat} {mq fq sn al : Nat → Nat} {ow tb us : Nat} {sc bg : Nat → Nat} {ce : Nat → Int64} {ge : Nat → Nat}
set_option maxRecDepth 100000 in
theorem xcL_shareOfTwo (hC : pp_CX p m c cc nL s args R_law D dA dL) (hw : pp_IX D dA dL ad A H0 cn qq mq fq sn al ow tb us sc bg ce ge H locs) {x : Int32} {y : Int32} {z : Int32} {v : Int32} (hok : pp_ok cn qq mq fq sn) (hG : pp_G ge) (hR : pp_RM R cells slots 5 129) (hsz : ls.size = nL) (hrest : (rest.map fun v => v.category).sum ≤ 8) (hdg : decode cc pc = .ok (.invokevirtual 55, 3)) (kk : ∀ (r : Int64) (u : (Nat → Nat) × Nat × Nat × Nat × (Nat → Nat) × (Nat → Nat) × (Nat → Int64) × (Nat → Nat)) (H1 : Heap) (locs1 : List Loc), (fun (z0 : Int64) (u : (Nat → Nat) × Nat × Nat × Nat × (Nat → Nat) × (Nat → Nat) × (Nat → Int64) × (Nat → Nat)) => z0 = pp_xtwo cn qq mq fq sn x y z v ∧ pp_G u.2.2.2.2.2.2.2) r u → pp_IX D dA dL ad A H0 cn qq mq fq sn (u.1) (u.2.1) (u.2.2.1) (u.2.2.2.1) (u.2.2.2.2.1) (u.2.2.2.2.2.1) (u.2.2.2.2.2.2.1) (u.2.2.2.2.2.2.2) H1 locs1 → (∀ q : Nat, q < H.size → ¬ pp_AX ad q → H1[q]? = H[q]?) → W p l e R s m args below meth c H1 locs1 cells slots Q (F0 m (pc + 3) ls (.long r :: rest))) : W p l e R s m args below meth c H locs cells slots Q (F0 m pc ls (.int v :: .int z :: .int y :: .int x :: .ref (ad 0) :: rest)) := pp_cQ_l (n := 4) (F := fun (u : (Nat → Nat) × Nat × Nat × Nat × (Nat → Nat) × (Nat → Nat) × (Nat → Int64) × (Nat → Nat)) => pp_WX dA dL ad cn qq mq fq sn (u.1) (u.2.1) (u.2.2.1) (u.2.2.2.1) (u.2.2.2.2.1) (u.2.2.2.2.2.1) (u.2.2.2.2.2.2.1) (u.2.2.2.2.2.2.2)) hC hw.1 hw.2.1 hw.2.2 (mX_shareOfTwo l D dA dL ad cn qq mq fq sn al ow tb us sc bg ce ge x y z v hok hG) (pp_D_all hw.2.1 rfl) (lw_V q190 q191 q192 q30 q193) (by decide +kernel) rfl rfl rfl hR (va_recv hC.2 hw.1 (ci := 0) (q0 := 0) rfl rfl) hsz hrest hdg rfl (fun r u H1 l1 h hP hS hk => kk r u H1 l1 h ⟨hP, pp_D_addr hw.2.1 rfl, hS⟩ hk)
end PC_X_shareOfTwo
set_option maxHeartbeats 4000000 in
set_option maxRecDepth 100000 in
theorem mX_copies (l : Launch) (D : va_G) (dA dL : ClassId) (ad : Nat → Nat) (cn qq : Nat) (mq fq sn al : Nat → Nat) (ow tb us : Nat) (sc bg : Nat → Nat) (ce : Nat → Int64) (ge : Nat → Nat) (x : Int32) (hok : pp_ok cn qq mq fq sn) (hG : pp_G ge) : Met l yX0_copies (ws_ yX0_copies cX0_copies 6 (some .long)) ({ frames := 5, cells := 0, slots := 0, locals := 127 } : Room) (pp_Pc D dA dL (pp_WX dA dL ad cn qq mq fq sn al ow tb us sc bg ce ge) [.ref (ad 0), .int x]) (va_Ql (fun (z0 : Int64) (u : (Nat → Nat) × Nat × Nat × Nat × (Nat → Nat) × (Nat → Nat) × (Nat → Int64) × (Nat → Nat)) => z0 = pp_xcop cn qq mq fq sn x ∧ pp_G u.2.2.2.2.2.2.2) (fun u t => va_P D vwCl ((fun (u : (Nat → Nat) × Nat × Nat × Nat × (Nat → Nat) × (Nat → Nat) × (Nat → Int64) × (Nat → Nat)) => pp_WX dA dL ad cn qq mq fq sn (u.1) (u.2.1) (u.2.2.1) (u.2.2.2.1) (u.2.2.2.2.1) (u.2.2.2.2.2.1) (u.2.2.2.2.2.2.1) (u.2.2.2.2.2.2.2)) u) t.heap) (pp_AX ad)) 0 0 (pp_AX ad) := by
  refine pp_ofX (by decide) rfl (Nat.le_of_ble_eq_true rfl) ?_
  intro p e s m below meth c ls hC hr hlocks hw hl
  have hx := hC.1.1
  have hb := hC.1.2.1
  have hl : lv_has ls 6 [(0, .ref (ad 0)), (1, .int x)] := hl
  have hR : pp_RM ({ frames := 5, cells := 0, slots := 0, locals := 127 } : Room) 0 0 5 127 := ⟨Nat.le_of_ble_eq_true rfl, Nat.le_of_ble_eq_true rfl, Nat.le_of_ble_eq_true rfl, Nat.le_of_ble_eq_true rfl⟩
  have hcn := hok.1
  refine lv_aload_n hx hb dX0_copies_0 rfl (lv_at hl 0 rfl) ?_
  refine lv_iload_n hx hb dX0_copies_1 rfl (lv_at hl 1 rfl) ?_
  refine xc_bad  hC hw  (hR.le (by decide) (by decide)) hl.1 (Nat.le_of_ble_eq_true rfl) dX0_copies_2 ?_
  refine nr_z_eq (tgt := 10) hx hb dX0_copies_5 (by decide) (by have := pp_bad_lt cn x; omega) (fun h1 => ?_) (fun h1 => ?_)
  · refine lv_aload_n hx hb dX0_copies_10 rfl (lv_at hl 0 rfl) ?_
    refine lv_iload_n hx hb dX0_copies_11 rfl (lv_at hl 1 rfl) ?_
    refine lv_iconst (v := (nI 1)) hx hb dX0_copies_12 (by decide) ?_
    refine xc_share hC hw hok hG (hR.le (by decide) (by decide)) hl.1 (Nat.le_of_ble_eq_true rfl) dX0_copies_13 (fun r1 u1 H locs hs1 hw hk => ?_)
    refine lv_lstore_n (lv' := [(2, .long r1), (0, .ref (ad 0)), (1, .int x)]) hx hb dX0_copies_16 rfl hl (by decide) rfl (fun ls hl => ?_)
    refine lv_aload_n hx hb dX0_copies_17 rfl (lv_at hl 1 rfl) ?_
    refine lv_iload_n hx hb dX0_copies_18 rfl (lv_at hl 2 rfl) ?_
    refine lv_iconst (v := (nI 2)) hx hb dX0_copies_19 (by decide) ?_
    refine xc_share hC hw hok hs1.2 (hR.le (by decide) (by decide)) hl.1 (Nat.le_of_ble_eq_true rfl) dX0_copies_20 (fun r2 u2 H locs hs2 hw hk => ?_)
    refine lv_lstore (lv' := [(4, .long r2), (2, .long r1), (0, .ref (ad 0)), (1, .int x)]) hx hb dX0_copies_23 hl (by decide) rfl (fun ls hl => ?_)
    refine lv_lload_n hx hb dX0_copies_25 rfl (lv_at hl 1 rfl) ?_
    refine lv_ldc2 (v := 2) hx hb hC.1.2.2.2.1 (hC.1.2.2.2.2 _ q199) dX0_copies_26 ?_
    refine lv_lload hx hb dX0_copies_29 (lv_at hl 0 rfl) ?_
    refine lv_lmul hx hb dX0_copies_31 ?_
    refine lv_ladd hx hb dX0_copies_32 ?_
    exact pp_rQ_l (F := fun (u : (Nat → Nat) × Nat × Nat × Nat × (Nat → Nat) × (Nat → Nat) × (Nat → Int64) × (Nat → Nat)) => pp_WX dA dL ad cn qq mq fq sn (u.1) (u.2.1) (u.2.2.1) (u.2.2.2.1) (u.2.2.2.2.1) (u.2.2.2.2.2.1) (u.2.2.2.2.2.2.1) (u.2.2.2.2.2.2.2)) hx hb hr hlocks dX0_copies_33 u2 ⟨by rw [pp_xcop, if_pos h1, hs1.1, hs2.1], hs2.2⟩ hw.1 hw.2.2
  · refine lv_lconst (v := 0) hx hb dX0_copies_8 (by decide) ?_
    exact pp_rQ_l (F := fun (u : (Nat → Nat) × Nat × Nat × Nat × (Nat → Nat) × (Nat → Nat) × (Nat → Int64) × (Nat → Nat)) => pp_WX dA dL ad cn qq mq fq sn (u.1) (u.2.1) (u.2.2.1) (u.2.2.2.1) (u.2.2.2.2.1) (u.2.2.2.2.2.1) (u.2.2.2.2.2.2.1) (u.2.2.2.2.2.2.2)) hx hb hr hlocks dX0_copies_9 (al, ow, tb, us, sc, bg, ce, ge) ⟨by rw [pp_xcop, if_neg h1], hG⟩ hw.1 hw.2.2
section PC_X_copies
variable {p : Program} {l : Launch} {e : Env} {R : Room} {s : State} {m : MethodId} {args : Array Value} {below : List Frame} {meth : Method} {c : Code} {H : Heap} {locs : List Loc} {cells slots : Nat} {Q : State → Prop}
variable {cc : ByteArray} {pc nL : Nat} {ls : Array Slot} {rest : List Value}
variable {D : va_G} {dA dL : ClassId} {ad : Nat → Nat} {A : Nat → Prop} {H0 : Heap} {cn qq : Nat} {mq fq sn al : Nat → Nat} {ow tb us : Nat} {sc bg : Nat → Nat} {ce : Nat → Int64} {ge : Nat → Nat}
set_option maxRecDepth 100000 in
theorem xcL_copies (hC : pp_CX p m c cc nL s args R_law D dA dL) (hw : pp_IX D dA dL ad A H0 cn qq mq fq sn al ow tb us sc bg ce ge H locs) {x : Int32} (hok : pp_ok cn qq mq fq sn) (hG : pp_G ge) (hR : pp_RM R cells slots 6 152) (hsz : ls.size = nL) (hrest : (rest.map fun v => v.category).sum ≤ 8) (hdg : decode cc pc = .ok (.invokevirtual 60, 3)) (kk : ∀ (r : Int64) (u : (Nat → Nat) × Nat × Nat × Nat × (Nat → Nat) × (Nat → Nat) × (Nat → Int64) × (Nat → Nat)) (H1 : Heap) (locs1 : List Loc), (fun (z0 : Int64) (u : (Nat → Nat) × Nat × Nat × Nat × (Nat → Nat) × (Nat → Nat) × (Nat → Int64) × (Nat → Nat)) => z0 = pp_xcop cn qq mq fq sn x ∧ pp_G u.2.2.2.2.2.2.2) r u → pp_IX D dA dL ad A H0 cn qq mq fq sn (u.1) (u.2.1) (u.2.2.1) (u.2.2.2.1) (u.2.2.2.2.1) (u.2.2.2.2.2.1) (u.2.2.2.2.2.2.1) (u.2.2.2.2.2.2.2) H1 locs1 → (∀ q : Nat, q < H.size → ¬ pp_AX ad q → H1[q]? = H[q]?) → W p l e R s m args below meth c H1 locs1 cells slots Q (F0 m (pc + 3) ls (.long r :: rest))) : W p l e R s m args below meth c H locs cells slots Q (F0 m pc ls (.int x :: .ref (ad 0) :: rest)) := pp_cQ_l (n := 1) (F := fun (u : (Nat → Nat) × Nat × Nat × Nat × (Nat → Nat) × (Nat → Nat) × (Nat → Int64) × (Nat → Nat)) => pp_WX dA dL ad cn qq mq fq sn (u.1) (u.2.1) (u.2.2.1) (u.2.2.2.1) (u.2.2.2.2.1) (u.2.2.2.2.2.1) (u.2.2.2.2.2.2.1) (u.2.2.2.2.2.2.2)) hC hw.1 hw.2.1 hw.2.2 (mX_copies l D dA dL ad cn qq mq fq sn al ow tb us sc bg ce ge x hok hG) (pp_D_all hw.2.1 rfl) (lw_V q194 q195 q196 q30 q197) (by decide +kernel) rfl rfl rfl hR (va_recv hC.2 hw.1 (ci := 0) (q0 := 0) rfl rfl) hsz hrest hdg rfl (fun r u H1 l1 h hP hS hk => kk r u H1 l1 h ⟨hP, pp_D_addr hw.2.1 rfl, hS⟩ hk)
end PC_X_copies
section PL_possible
variable {p : Program} {l : Launch} {e : Env} {R : Room} {s : State} {m : MethodId} {args : Array Value} {below : List Frame} {meth : Method} {c : Code} {H : Heap} {locs : List Loc} {cells slots : Nat} {Q : State → Prop}
variable {cc : ByteArray} {pc nL : Nat} {ls : Array Slot} {rest : List Value}
variable {D : va_G} {dA dL : ClassId} {ad : Nat → Nat} {A : Nat → Prop} {H0 : Heap} {cn qq : Nat} {mq fq sn al : Nat → Nat} {ow tb us : Nat} {sc bg : Nat → Nat} {ce : Nat → Int64} {ge : Nat → Nat}
set_option maxHeartbeats 4000000 in
set_option maxRecDepth 100000 in
theorem lX_possible (hC : pp_CX p m c cX0_possible 6 s args RX0 D dA dL) (hR : pp_RM R cells slots 4 105) {x : Int32} (hok : pp_ok cn qq mq fq sn) (hcn : cn ≤ 7) (hj : x = nI (pp_j x) ∧ pp_j x < cn) : ∀ (n : Nat) (gt : Nat) (al1 : Nat → Nat) (ow1 tb1 us1 : Nat) (sc1 bg1 : Nat → Nat) (ce1 : Nat → Int64) (ge1 : Nat → Nat) (ls : Array Slot) (H : Heap) (locs : List Loc), 3 - gt = n → gt ≤ 3 → pp_G ge1 → pp_IX D dA dL ad A H0 cn qq mq fq sn al1 ow1 tb1 us1 sc1 bg1 ce1 ge1 H locs → lv_has ls 6 [(0, .ref (ad 0)), (1, .int x), (2, .int (nI (pp_xps cn qq mq fq sn (pp_j x) gt))), (3, .int (nI gt))] → (∀ (al1 : Nat → Nat) (ow1 tb1 us1 : Nat) (sc1 bg1 : Nat → Nat) (ce1 : Nat → Int64) (ge1 : Nat → Nat) (_ : pp_G ge1) (ls : Array Slot) (H : Heap) (locs : List Loc), pp_IX D dA dL ad A H0 cn qq mq fq sn al1 ow1 tb1 us1 sc1 bg1 ce1 ge1 H locs → lv_has ls 6 [(0, .ref (ad 0)), (1, .int x), (2, .int (nI (pp_xps cn qq mq fq sn (pp_j x) 3))), (3, .int (nI 3))] → W p l e R s m args below meth c H locs cells slots Q (F0 m 62 ls [])) → W p l e R s m args below meth c H locs cells slots Q (F0 m 14 ls []) := by
  have hx := hC.1.1
  have hb := hC.1.2.1
  intro n
  induction n using Nat.strongRecOn with
  | ind n ih =>
    intro gt al1 ow1 tb1 us1 sc1 bg1 ce1 ge1 ls H locs hn g1 g2 hw hl kk1
    refine lv_iload_n hx hb dX0_possible_14 rfl (lv_at hl 3 rfl) ?_
    refine lv_iconst (v := (nI 3)) hx hb dX0_possible_15 (by decide) ?_
    refine nr_ge (tgt := 62) hx hb dX0_possible_16 (by decide) (by omega) (by omega) (fun h1 => ?_) (fun h1 => ?_)
    · obtain rfl : gt = 3 := by omega
      exact kk1 al1 ow1 tb1 us1 sc1 bg1 ce1 ge1 g2 ls H locs hw hl
    · refine lv_aload_n hx hb dX0_possible_19 rfl (lv_at hl 0 rfl) ?_
      refine xc_allowAll  hC hw  (hR.le (by decide) (by decide)) hl.1 (Nat.le_of_ble_eq_true rfl) dX0_possible_20 (fun H locs hw hk => ?_)
      refine lv_aload_n hx hb dX0_possible_23 rfl (lv_at hl 0 rfl) ?_
      refine lv_iconst (v := (nI 1)) hx hb dX0_possible_24 (by decide) ?_
      refine xp_ow hC hw rfl rfl dX0_possible_25 (fun H locs hw => ?_)
      refine lv_aload_n hx hb dX0_possible_28 rfl (lv_at hl 0 rfl) ?_
      refine xg_al hC hw dX0_possible_29 ?_
      refine lv_iload_n hx hb dX0_possible_32 rfl (lv_at hl 1 rfl) ?_
      refine nr_top (y := (nI (pp_j x))) hj.1 ?_
      refine lv_iconst (v := (nI 1)) hx hb dX0_possible_33 (by decide) ?_
      refine lv_iload_n hx hb dX0_possible_34 rfl (lv_at hl 3 rfl) ?_
      refine nr_shl1 hx hb (by omega) dX0_possible_35 ?_
      refine xs_al hC hw (by have := hj.2; omega) dX0_possible_36 (fun H locs hw => ?_)
      refine lv_aload_n hx hb dX0_possible_37 rfl (lv_at hl 0 rfl) ?_
      refine xc_sum hC hw hok (pp_up_lt pp_al7_lt (pp_pow8 (by omega))) (by decide) g2 (hR.le (by decide) (by decide)) hl.1 (Nat.le_of_ble_eq_true rfl) dX0_possible_38 (fun r u H locs hru hw hk => ?_)
      refine lv_lstore (lv' := [(4, .long r), (0, .ref (ad 0)), (1, .int x), (2, .int (nI (pp_xps cn qq mq fq sn (pp_j x) gt))), (3, .int (nI gt))]) hx hb dX0_possible_41 hl (by decide) rfl (fun ls hl => ?_)
      refine lv_lload hx hb dX0_possible_43 (lv_at hl 0 rfl) ?_
      refine lv_lconst (v := 0) hx hb dX0_possible_45 (by decide) ?_
      refine W.lcmp hx hb dX0_possible_46 ?_
      refine lv_if_eq (tgt := 56) hx hb dX0_possible_47 (by decide) (fun h2 => ?_) (fun h2 => ?_)
      · have hz : r = pp_tot cn qq mq fq sn (va_up (fun _ => 7) (pp_j x) (2 ^ gt)) 1 := by rw [hru.1]; exact pp_tot_congr (fun t ht => pp_al_sh (by omega))
        rw [lg_cmp_eq, hz] at h2
        rw [show pp_xps cn qq mq fq sn (pp_j x) gt = pp_xps cn qq mq fq sn (pp_j x) (gt + 1) from by rw [pp_xps, if_pos h2]] at hl
        refine lv_iinc (v := (nI (gt + 1))) (lv' := [(3, .int (nI (gt + 1))), (4, .long r), (0, .ref (ad 0)), (1, .int x), (2, .int (nI (pp_xps cn qq mq fq sn (pp_j x) (gt + 1))))]) hx hb dX0_possible_56 hl (k := 4) rfl (pn_inc _) (by decide) rfl (fun ls hl => ?_)
        refine lv_goto (tgt := 14) hx hb dX0_possible_59 (by decide) ?_
        exact ih (3 - (gt + 1)) (by omega) (gt + 1) _ _ _ _ _ _ _ _ ls H locs rfl (by omega) hru.2 hw (lv_sub hl [2, 3, 4, 0] rfl) kk1
      · have hz : r = pp_tot cn qq mq fq sn (va_up (fun _ => 7) (pp_j x) (2 ^ gt)) 1 := by rw [hru.1]; exact pp_tot_congr (fun t ht => pp_al_sh (by omega))
        rw [lg_cmp_eq, hz] at h2
        refine lv_iload_n hx hb dX0_possible_50 rfl (lv_at hl 3 rfl) ?_
        refine lv_iconst (v := (nI 1)) hx hb dX0_possible_51 (by decide) ?_
        refine lv_iload_n hx hb dX0_possible_52 rfl (lv_at hl 4 rfl) ?_
        refine nr_shl1 hx hb (by omega) dX0_possible_53 ?_
        refine nr_or hx hb dX0_possible_54 ?_
        refine nr_top (y := (nI (pp_xps cn qq mq fq sn (pp_j x) (gt + 1)))) (by rw [pp_xps, if_neg h2]) ?_
        refine lv_istore_n (lv' := [(2, .int (nI (pp_xps cn qq mq fq sn (pp_j x) (gt + 1)))), (4, .long r), (0, .ref (ad 0)), (1, .int x), (3, .int (nI gt))]) hx hb dX0_possible_55 rfl hl (by decide) rfl (fun ls hl => ?_)
        refine lv_iinc (v := (nI (gt + 1))) (lv' := [(3, .int (nI (gt + 1))), (2, .int (nI (pp_xps cn qq mq fq sn (pp_j x) (gt + 1)))), (4, .long r), (0, .ref (ad 0)), (1, .int x)]) hx hb dX0_possible_56 hl (k := 4) rfl (pn_inc _) (by decide) rfl (fun ls hl => ?_)
        refine lv_goto (tgt := 14) hx hb dX0_possible_59 (by decide) ?_
        exact ih (3 - (gt + 1)) (by omega) (gt + 1) _ _ _ _ _ _ _ _ ls H locs rfl (by omega) hru.2 hw (lv_sub hl [3, 4, 1, 0] rfl) kk1
end PL_possible
set_option maxHeartbeats 4000000 in
set_option maxRecDepth 100000 in
theorem mX_possible (l : Launch) (D : va_G) (dA dL : ClassId) (ad : Nat → Nat) (cn qq : Nat) (mq fq sn al : Nat → Nat) (ow tb us : Nat) (sc bg : Nat → Nat) (ce : Nat → Int64) (ge : Nat → Nat) (x : Int32) (hok : pp_ok cn qq mq fq sn) (hG : pp_G ge) : Met l yX0_possible (ws_ yX0_possible cX0_possible 6 (some .int)) ({ frames := 4, cells := 0, slots := 0, locals := 105 } : Room) (pp_Pc D dA dL (pp_WX dA dL ad cn qq mq fq sn al ow tb us sc bg ce ge) [.ref (ad 0), .int x]) (va_Qi (fun (z0 : Int32) (u : (Nat → Nat) × Nat × Nat × Nat × (Nat → Nat) × (Nat → Nat) × (Nat → Int64) × (Nat → Nat)) => z0 = nI (pp_xpos cn qq mq fq sn x) ∧ pp_G u.2.2.2.2.2.2.2) (fun u t => va_P D vwCl ((fun (u : (Nat → Nat) × Nat × Nat × Nat × (Nat → Nat) × (Nat → Nat) × (Nat → Int64) × (Nat → Nat)) => pp_WX dA dL ad cn qq mq fq sn (u.1) (u.2.1) (u.2.2.1) (u.2.2.2.1) (u.2.2.2.2.1) (u.2.2.2.2.2.1) (u.2.2.2.2.2.2.1) (u.2.2.2.2.2.2.2)) u) t.heap) (pp_AX ad)) 0 0 (pp_AX ad) := by
  refine pp_ofX (by decide) rfl (Nat.le_of_ble_eq_true rfl) ?_
  intro p e s m below meth c ls hC hr hlocks hw hl
  have hx := hC.1.1
  have hb := hC.1.2.1
  have hl : lv_has ls 6 [(0, .ref (ad 0)), (1, .int x)] := hl
  have hR : pp_RM ({ frames := 4, cells := 0, slots := 0, locals := 105 } : Room) 0 0 4 105 := ⟨Nat.le_of_ble_eq_true rfl, Nat.le_of_ble_eq_true rfl, Nat.le_of_ble_eq_true rfl, Nat.le_of_ble_eq_true rfl⟩
  have hcn := hok.1
  refine lv_aload_n hx hb dX0_possible_0 rfl (lv_at hl 0 rfl) ?_
  refine lv_iload_n hx hb dX0_possible_1 rfl (lv_at hl 1 rfl) ?_
  refine xc_bad  hC hw  (hR.le (by decide) (by decide)) hl.1 (Nat.le_of_ble_eq_true rfl) dX0_possible_2 ?_
  refine nr_z_eq (tgt := 10) hx hb dX0_possible_5 (by decide) (by have := pp_bad_lt cn x; omega) (fun h1 => ?_) (fun h1 => ?_)
  · refine lv_iconst (v := (nI 0)) hx hb dX0_possible_10 (by decide) ?_
    refine lv_istore_n (lv' := [(2, .int (nI 0)), (0, .ref (ad 0)), (1, .int x)]) hx hb dX0_possible_11 rfl hl (by decide) rfl (fun ls hl => ?_)
    refine lv_iconst (v := (nI 0)) hx hb dX0_possible_12 (by decide) ?_
    refine lv_istore_n (lv' := [(3, .int (nI 0)), (2, .int (nI 0)), (0, .ref (ad 0)), (1, .int x)]) hx hb dX0_possible_13 rfl hl (by decide) rfl (fun ls hl => ?_)
    refine lX_possible hC hR hok hcn (pp_bad_0 h1 hcn) 3 0 al ow tb us sc bg ce ge ls _ _ rfl (by decide) hG hw (lv_sub hl [2, 3, 1, 0] rfl) (fun al1 ow1 tb1 us1 sc1 bg1 ce1 ge1 hG ls H locs hw hl => ?_)
    refine lv_iload_n hx hb dX0_possible_62 rfl (lv_at hl 2 rfl) ?_
    exact pp_rQ_i (F := fun (u : (Nat → Nat) × Nat × Nat × Nat × (Nat → Nat) × (Nat → Nat) × (Nat → Int64) × (Nat → Nat)) => pp_WX dA dL ad cn qq mq fq sn (u.1) (u.2.1) (u.2.2.1) (u.2.2.2.1) (u.2.2.2.2.1) (u.2.2.2.2.2.1) (u.2.2.2.2.2.2.1) (u.2.2.2.2.2.2.2)) hx hb hr hlocks dX0_possible_63 (al1, ow1, tb1, us1, sc1, bg1, ce1, ge1) ⟨by rw [pp_xpos, if_pos h1], hG⟩ hw.1 hw.2.2
  · refine lv_iconst (v := (nI 0)) hx hb dX0_possible_8 (by decide) ?_
    exact pp_rQ_i (F := fun (u : (Nat → Nat) × Nat × Nat × Nat × (Nat → Nat) × (Nat → Nat) × (Nat → Int64) × (Nat → Nat)) => pp_WX dA dL ad cn qq mq fq sn (u.1) (u.2.1) (u.2.2.1) (u.2.2.2.1) (u.2.2.2.2.1) (u.2.2.2.2.2.1) (u.2.2.2.2.2.2.1) (u.2.2.2.2.2.2.2)) hx hb hr hlocks dX0_possible_9 (al, ow, tb, us, sc, bg, ce, ge) ⟨by rw [pp_xpos, if_neg h1], hG⟩ hw.1 hw.2.2
section PC_X_possible
variable {p : Program} {l : Launch} {e : Env} {R : Room} {s : State} {m : MethodId} {args : Array Value} {below : List Frame} {meth : Method} {c : Code} {H : Heap} {locs : List Loc} {cells slots : Nat} {Q : State → Prop}
variable {cc : ByteArray} {pc nL : Nat} {ls : Array Slot} {rest : List Value}
variable {D : va_G} {dA dL : ClassId} {ad : Nat → Nat} {A : Nat → Prop} {H0 : Heap} {cn qq : Nat} {mq fq sn al : Nat → Nat} {ow tb us : Nat} {sc bg : Nat → Nat} {ce : Nat → Int64} {ge : Nat → Nat}
set_option maxRecDepth 100000 in
theorem xcL_possible (hC : pp_CX p m c cc nL s args R_law D dA dL) (hw : pp_IX D dA dL ad A H0 cn qq mq fq sn al ow tb us sc bg ce ge H locs) {x : Int32} (hok : pp_ok cn qq mq fq sn) (hG : pp_G ge) (hR : pp_RM R cells slots 5 130) (hsz : ls.size = nL) (hrest : (rest.map fun v => v.category).sum ≤ 8) (hdg : decode cc pc = .ok (.invokevirtual 65, 3)) (kk : ∀ (r : Int32) (u : (Nat → Nat) × Nat × Nat × Nat × (Nat → Nat) × (Nat → Nat) × (Nat → Int64) × (Nat → Nat)) (H1 : Heap) (locs1 : List Loc), (fun (z0 : Int32) (u : (Nat → Nat) × Nat × Nat × Nat × (Nat → Nat) × (Nat → Nat) × (Nat → Int64) × (Nat → Nat)) => z0 = nI (pp_xpos cn qq mq fq sn x) ∧ pp_G u.2.2.2.2.2.2.2) r u → pp_IX D dA dL ad A H0 cn qq mq fq sn (u.1) (u.2.1) (u.2.2.1) (u.2.2.2.1) (u.2.2.2.2.1) (u.2.2.2.2.2.1) (u.2.2.2.2.2.2.1) (u.2.2.2.2.2.2.2) H1 locs1 → (∀ q : Nat, q < H.size → ¬ pp_AX ad q → H1[q]? = H[q]?) → W p l e R s m args below meth c H1 locs1 cells slots Q (F0 m (pc + 3) ls (.int r :: rest))) : W p l e R s m args below meth c H locs cells slots Q (F0 m pc ls (.int x :: .ref (ad 0) :: rest)) := pp_cQ_i (n := 1) (F := fun (u : (Nat → Nat) × Nat × Nat × Nat × (Nat → Nat) × (Nat → Nat) × (Nat → Int64) × (Nat → Nat)) => pp_WX dA dL ad cn qq mq fq sn (u.1) (u.2.1) (u.2.2.1) (u.2.2.2.1) (u.2.2.2.2.1) (u.2.2.2.2.2.1) (u.2.2.2.2.2.2.1) (u.2.2.2.2.2.2.2)) hC hw.1 hw.2.1 hw.2.2 (mX_possible l D dA dL ad cn qq mq fq sn al ow tb us sc bg ce ge x hok hG) (pp_D_all hw.2.1 rfl) (lw_V q200 q201 q202 q30 q203) (by decide +kernel) rfl rfl rfl hR (va_recv hC.2 hw.1 (ci := 0) (q0 := 0) rfl rfl) hsz hrest hdg rfl (fun r u H1 l1 h hP hS hk => kk r u H1 l1 h ⟨hP, pp_D_addr hw.2.1 rfl, hS⟩ hk)
end PC_X_possible
section PL_before
variable {p : Program} {l : Launch} {e : Env} {R : Room} {s : State} {m : MethodId} {args : Array Value} {below : List Frame} {meth : Method} {c : Code} {H : Heap} {locs : List Loc} {cells slots : Nat} {Q : State → Prop}
variable {cc : ByteArray} {pc nL : Nat} {ls : Array Slot} {rest : List Value}
variable {D : va_G} {dA dL : ClassId} {ad : Nat → Nat} {A : Nat → Prop} {H0 : Heap} {cn qq : Nat} {mq fq sn al : Nat → Nat} {ow tb us : Nat} {sc bg : Nat → Nat} {ce : Nat → Int64} {ge : Nat → Nat}
set_option maxHeartbeats 4000000 in
set_option maxRecDepth 100000 in
theorem lX_before (hC : pp_CX p m c cX0_before 5 s args RX0 D dA dL) (hw : pp_IX D dA dL ad A H0 cn qq mq fq sn al ow tb us sc bg ce ge H locs) {x y : Int32} (hok : pp_ok cn qq mq fq sn) : ∀ (n S : Nat) (ls : Array Slot), n ≤ cn → S < 128 → lv_has ls 5 [(0, .ref (ad 0)), (1, .int x), (2, .int y), (3, .int (nI S)), (4, .int (nI n - 1))] → (∀ (ls : Array Slot), lv_has ls 5 [(0, .ref (ad 0)), (1, .int x), (2, .int y), (3, .int (nI (pp_anc mq fq n S))), (4, .int (nI 0 - 1))] → W p l e R s m args below meth c H locs cells slots Q (F0 m 78 ls [])) → W p l e R s m args below meth c H locs cells slots Q (F0 m 25 ls []) := by
  have hx := hC.1.1
  have hb := hC.1.2.1
  have hcn := hok.1
  intro n
  induction n with
  | zero =>
    intro S ls hn hS hl kk
    refine lv_iload hx hb dX0_before_25 (lv_at hl 4 rfl) ?_
    refine nr_m_lt (tgt := 78) hx hb dX0_before_27 (by decide) (by omega) (fun h1 => ?_) (fun h1 => ?_)
    · exact kk ls hl
    · exact absurd rfl h1
  | succ n ih =>
    intro S ls hn hS hl kk
    have hpp := pp_par hok (p := n) (by omega)
    refine lv_iload hx hb dX0_before_25 (lv_at hl 4 rfl) ?_
    refine nr_m_lt (tgt := 78) hx hb dX0_before_27 (by decide) (by omega) (fun h1 => ?_) (fun h1 => ?_)
    · exact absurd h1 (by omega)
    · rw [nI_pred] at hl
      refine lv_iload_n hx hb dX0_before_30 rfl (lv_at hl 3 rfl) ?_
      refine lv_iload hx hb dX0_before_31 (lv_at hl 4 rfl) ?_
      refine nr_shr hx hb (by omega) (by omega) dX0_before_33 ?_
      refine lv_iconst (v := (nI 1)) hx hb dX0_before_34 (by decide) ?_
      refine nr_bt hx hb (by omega) dX0_before_35 ?_
      refine lv_iconst (v := (nI 1)) hx hb dX0_before_36 (by decide) ?_
      refine nr_ne (tgt := 72) hx hb dX0_before_37 (by decide) (by have := pp_bt_lt S n; omega) (by omega) (fun h2 => ?_) (fun h2 => ?_)
      · refine lv_iinc (v := (nI n - 1)) (lv' := [(4, .int (nI n - 1)), (0, .ref (ad 0)), (1, .int x), (2, .int y), (3, .int (nI S))]) hx hb dX0_before_72 hl (k := 4) rfl (pn_dec _) (by decide) rfl (fun ls hl => ?_)
        refine lv_goto (tgt := 25) hx hb dX0_before_75 (by decide) ?_
        exact ih S ls (by omega) hS (lv_sub hl [1, 2, 3, 4, 0] rfl) (by rw [pp_anc, if_neg (by rintro ⟨a, b⟩; first | exact h2 a | exact b h3)] at kk; exact kk)
      · refine lv_aload_n hx hb dX0_before_40 rfl (lv_at hl 0 rfl) ?_
        refine xg_mq hC hw dX0_before_41 ?_
        refine lv_iload hx hb dX0_before_44 (lv_at hl 4 rfl) ?_
        refine xl_mq hC hw (by omega) dX0_before_46 ?_
        refine nr_m_lt (tgt := 72) hx hb dX0_before_47 (by decide) (by omega) (fun h3 => ?_) (fun h3 => ?_)
        · refine lv_iinc (v := (nI n - 1)) (lv' := [(4, .int (nI n - 1)), (0, .ref (ad 0)), (1, .int x), (2, .int y), (3, .int (nI S))]) hx hb dX0_before_72 hl (k := 4) rfl (pn_dec _) (by decide) rfl (fun ls hl => ?_)
          refine lv_goto (tgt := 25) hx hb dX0_before_75 (by decide) ?_
          exact ih S ls (by omega) hS (lv_sub hl [1, 2, 3, 4, 0] rfl) (by rw [pp_anc, if_neg (by rintro ⟨a, b⟩; first | exact h2 a | exact b h3)] at kk; exact kk)
        · refine lv_iload_n hx hb dX0_before_50 rfl (lv_at hl 3 rfl) ?_
          refine lv_iconst (v := (nI 1)) hx hb dX0_before_51 (by decide) ?_
          refine lv_aload_n hx hb dX0_before_52 rfl (lv_at hl 0 rfl) ?_
          refine xg_mq hC hw dX0_before_53 ?_
          refine lv_iload hx hb dX0_before_56 (lv_at hl 4 rfl) ?_
          refine xl_mq hC hw (by omega) dX0_before_58 ?_
          refine nr_top (y := (nI (mq n - 1))) (pn_m h3) ?_
          refine nr_shl1 hx hb (by omega) dX0_before_59 ?_
          refine nr_or hx hb dX0_before_60 ?_
          refine lv_iconst (v := (nI 1)) hx hb dX0_before_61 (by decide) ?_
          refine lv_aload_n hx hb dX0_before_62 rfl (lv_at hl 0 rfl) ?_
          refine xg_fq hC hw dX0_before_63 ?_
          refine lv_iload hx hb dX0_before_66 (lv_at hl 4 rfl) ?_
          refine xl_fq hC hw (by omega) dX0_before_68 ?_
          refine nr_top (y := (nI (fq n - 1))) (pn_m (hpp.2.2 h3)) ?_
          refine nr_shl1 hx hb (by omega) dX0_before_69 ?_
          refine nr_or hx hb dX0_before_70 ?_
          refine lv_istore_n (lv' := [(3, .int (nI ((S ||| (2 ^ (mq n - 1))) ||| (2 ^ (fq n - 1))))), (0, .ref (ad 0)), (1, .int x), (2, .int y), (4, .int (nI n))]) hx hb dX0_before_71 rfl hl (by decide) rfl (fun ls hl => ?_)
          refine lv_iinc (v := (nI n - 1)) (lv' := [(4, .int (nI n - 1)), (3, .int (nI ((S ||| (2 ^ (mq n - 1))) ||| (2 ^ (fq n - 1))))), (0, .ref (ad 0)), (1, .int x), (2, .int y)]) hx hb dX0_before_72 hl (k := 4) rfl (pn_dec _) (by decide) rfl (fun ls hl => ?_)
          refine lv_goto (tgt := 25) hx hb dX0_before_75 (by decide) ?_
          exact ih _ ls (by omega) (pp_or_lt (pp_or_lt hS (pp_pow_lt (by omega))) (pp_pow_lt (by omega))) (lv_sub hl [2, 3, 4, 1, 0] rfl) (by rw [pp_anc, if_pos ⟨h2, h3⟩] at kk; exact kk)
end PL_before
theorem pp_anc_lt {mq fq : Nat → Nat} : ∀ n S, (∀ k, k < n → mq k ≤ 7 ∧ fq k ≤ 7 ∧ (mq k ≠ 0 → fq k ≠ 0)) → S < 128 → pp_anc mq fq n S < 128
  | 0, _, _, h => h
  | n + 1, S, hk, h => by
    rw [pp_anc]
    refine pp_anc_lt n _ (fun k hk' => hk k (by omega)) ?_
    have h3 := hk n (by omega)
    by_cases hc : pp_bt S n = 1 ∧ mq n ≠ 0
    · rw [if_pos hc]
      have h4 := hc.2
      exact pp_or_lt (pp_or_lt h (pp_pow_lt (by omega))) (pp_pow_lt (by omega))
    · rw [if_neg hc]; exact h
set_option maxHeartbeats 4000000 in
set_option maxRecDepth 100000 in
theorem mX_before (l : Launch) (D : va_G) (dA dL : ClassId) (ad : Nat → Nat) (cn qq : Nat) (mq fq sn al : Nat → Nat) (ow tb us : Nat) (sc bg : Nat → Nat) (ce : Nat → Int64) (ge : Nat → Nat) (x : Int32) (y : Int32) (hok : pp_ok cn qq mq fq sn) : Met l yX0_before (ws_ yX0_before cX0_before 5 (some .boolean)) ({ frames := 1, cells := 0, slots := 0, locals := 23 } : Room) (pp_Pc D dA dL (pp_WX dA dL ad cn qq mq fq sn al ow tb us sc bg ce ge) [.ref (ad 0), .int x, .int y]) (vp_Si (fun z0 => z0 = (nI (pp_xbef cn mq fq x y)))) 0 0 (fun _ => False) := by
  refine pp_ofX (by decide) rfl (Nat.le_of_ble_eq_true rfl) ?_
  intro p e s m below meth c ls hC hr hlocks hw hl
  have hx := hC.1.1
  have hb := hC.1.2.1
  have hl : lv_has ls 5 [(0, .ref (ad 0)), (1, .int x), (2, .int y)] := hl
  have hR : pp_RM ({ frames := 1, cells := 0, slots := 0, locals := 23 } : Room) 0 0 1 23 := ⟨Nat.le_of_ble_eq_true rfl, Nat.le_of_ble_eq_true rfl, Nat.le_of_ble_eq_true rfl, Nat.le_of_ble_eq_true rfl⟩
  have hcn := hok.1
  refine lv_aload_n hx hb dX0_before_0 rfl (lv_at hl 0 rfl) ?_
  refine lv_iload_n hx hb dX0_before_1 rfl (lv_at hl 1 rfl) ?_
  refine xc_bad  hC hw  (hR.le (by decide) (by decide)) hl.1 (Nat.le_of_ble_eq_true rfl) dX0_before_2 ?_
  refine nr_z_ne (tgt := 16) hx hb dX0_before_5 (by decide) (by have := pp_bad_lt cn x; omega) (fun h1 => ?_) (fun h1 => ?_)
  · refine lv_iconst (v := (nI 0)) hx hb dX0_before_16 (by decide) ?_
    exact pp_rS_z hx hb hr hlocks dX0_before_17 (by unfold pp_xbef; rw [if_neg]; rintro ⟨a, b, c, d⟩; first | omega | exact c h3 | exact h4 d) (by decide)
  · refine lv_aload_n hx hb dX0_before_8 rfl (lv_at hl 0 rfl) ?_
    refine lv_iload_n hx hb dX0_before_9 rfl (lv_at hl 2 rfl) ?_
    refine xc_bad  hC hw  (hR.le (by decide) (by decide)) hl.1 (Nat.le_of_ble_eq_true rfl) dX0_before_10 ?_
    refine nr_z_eq (tgt := 18) hx hb dX0_before_13 (by decide) (by have := pp_bad_lt cn y; omega) (fun h2 => ?_) (fun h2 => ?_)
    · refine lv_iconst (v := (nI 1)) hx hb dX0_before_18 (by decide) ?_
      refine lv_iload_n hx hb dX0_before_19 rfl (lv_at hl 2 rfl) ?_
      refine nr_top (y := (nI (pp_j y))) (pp_bad_0 h2 hcn).1 ?_
      refine nr_shl1 hx hb (by have := (pp_bad_0 h2 hcn).2; omega) dX0_before_20 ?_
      refine lv_istore_n (lv' := [(3, .int (nI (2 ^ (pp_j y)))), (0, .ref (ad 0)), (1, .int x), (2, .int y)]) hx hb dX0_before_21 rfl hl (by decide) rfl (fun ls hl => ?_)
      refine lv_iload_n hx hb dX0_before_22 rfl (lv_at hl 3 rfl) ?_
      refine nr_top (y := (nI (pp_j y + 1) - 1)) ((pp_bad_0 h2 hcn).1.trans (pn_pr _)) ?_
      refine lv_istore (lv' := [(4, .int (nI (pp_j y + 1) - 1)), (3, .int (nI (2 ^ (pp_j y)))), (0, .ref (ad 0)), (1, .int x), (2, .int y)]) hx hb dX0_before_23 hl (by decide) rfl (fun ls hl => ?_)
      have hjy := (pp_bad_0 h2 hcn).2
      have hlt : pp_anc mq fq (pp_j y + 1) (2 ^ pp_j y) < 128 := pp_anc_lt _ _ (fun k hk => by have := pp_par hok (p := k) (by omega); omega) (pp_pow_lt (by omega))
      refine lX_before hC hw hok (pp_j y + 1) (2 ^ pp_j y) ls (by omega) (pp_pow_lt (by omega)) (lv_sub hl [2, 3, 4, 1, 0] rfl) (fun ls hl => ?_)
      refine lv_iload_n hx hb dX0_before_78 rfl (lv_at hl 1 rfl) ?_
      refine lv_iload_n hx hb dX0_before_79 rfl (lv_at hl 2 rfl) ?_
      refine lv_icmp_eq (tgt := 96) hx hb dX0_before_80 (by decide) (fun h3 => ?_) (fun h3 => ?_)
      · refine lv_iconst (v := (nI 0)) hx hb dX0_before_96 (by decide) ?_
        exact pp_rS_z hx hb hr hlocks dX0_before_97 (by unfold pp_xbef; rw [if_neg]; rintro ⟨a, b, c, d⟩; first | omega | exact c h3 | exact h4 d) (by decide)
      · refine lv_iload_n hx hb dX0_before_83 rfl (lv_at hl 3 rfl) ?_
        refine lv_iload_n hx hb dX0_before_84 rfl (lv_at hl 1 rfl) ?_
        refine nr_top (y := (nI (pp_j x))) (pp_bad_0 h1 hcn).1 ?_
        refine nr_shr hx hb (by omega) (by have := (pp_bad_0 h1 hcn).2; omega) dX0_before_85 ?_
        refine lv_iconst (v := (nI 1)) hx hb dX0_before_86 (by decide) ?_
        refine nr_bt hx hb (by omega) dX0_before_87 ?_
        refine lv_iconst (v := (nI 1)) hx hb dX0_before_88 (by decide) ?_
        refine nr_ne (tgt := 96) hx hb dX0_before_89 (by decide) (by have := pp_bt_lt (pp_anc mq fq (pp_j y + 1) (2 ^ pp_j y)) (pp_j x); omega) (by omega) (fun h4 => ?_) (fun h4 => ?_)
        · refine lv_iconst (v := (nI 0)) hx hb dX0_before_96 (by decide) ?_
          exact pp_rS_z hx hb hr hlocks dX0_before_97 (by unfold pp_xbef; rw [if_neg]; rintro ⟨a, b, c, d⟩; first | omega | exact c h3 | exact h4 d) (by decide)
        · refine lv_iconst (v := (nI 1)) hx hb dX0_before_92 (by decide) ?_
          refine lv_goto (tgt := 97) hx hb dX0_before_93 (by decide) ?_
          exact pp_rS_z hx hb hr hlocks dX0_before_97 (by rw [pp_xbef, if_pos ⟨h1, h2, h3, h4⟩]) (by decide)
    · refine lv_iconst (v := (nI 0)) hx hb dX0_before_16 (by decide) ?_
      exact pp_rS_z hx hb hr hlocks dX0_before_17 (by unfold pp_xbef; rw [if_neg]; rintro ⟨a, b, c, d⟩; first | omega | exact c h3 | exact h4 d) (by decide)
section PC_X_before
variable {p : Program} {l : Launch} {e : Env} {R : Room} {s : State} {m : MethodId} {args : Array Value} {below : List Frame} {meth : Method} {c : Code} {H : Heap} {locs : List Loc} {cells slots : Nat} {Q : State → Prop}
variable {cc : ByteArray} {pc nL : Nat} {ls : Array Slot} {rest : List Value}
variable {D : va_G} {dA dL : ClassId} {ad : Nat → Nat} {A : Nat → Prop} {H0 : Heap} {cn qq : Nat} {mq fq sn al : Nat → Nat} {ow tb us : Nat} {sc bg : Nat → Nat} {ce : Nat → Int64} {ge : Nat → Nat}
set_option maxRecDepth 100000 in
theorem xcL_before (hC : pp_CX p m c cc nL s args R_law D dA dL) (hw : pp_IX D dA dL ad A H0 cn qq mq fq sn al ow tb us sc bg ce ge H locs) {x : Int32} {y : Int32} (hok : pp_ok cn qq mq fq sn) (hR : pp_RM R cells slots 2 47) (hsz : ls.size = nL) (hrest : (rest.map fun v => v.category).sum ≤ 8) (hdg : decode cc pc = .ok (.invokevirtual 69, 3)) (kk : W p l e R s m args below meth c H locs cells slots Q (F0 m (pc + 3) ls (.int (nI (pp_xbef cn mq fq x y)) :: rest))) : W p l e R s m args below meth c H locs cells slots Q (F0 m pc ls (.int y :: .int x :: .ref (ad 0) :: rest)) := pp_cS_i (n := 2) hC hw.1 hw.2.1 (mX_before l D dA dL ad cn qq mq fq sn al ow tb us sc bg ce ge x y hok) (lw_V q204 q205 q206 q30 q207) (by decide +kernel) rfl rfl rfl hR (va_recv hC.2 hw.1 (ci := 0) (q0 := 0) rfl rfl) hsz hrest hdg rfl (fun r h => by rw [h]; exact kk)
end PC_X_before
end
section
/-! the reference: assignments as numbers to the base 3 -/
def pp_dig (a1 : Nat) : Nat → Nat := fun p => a1 / 3 ^ p % 3
theorem pp_dig_G (a1 : Nat) : pp_G (pp_dig a1) := fun _ => Nat.mod_lt _ (by decide)
theorem pp_3lt {r : Nat} (h : r ≤ 7) : 3 ^ r ≤ 2187 := Nat.le_trans (Nat.pow_le_pow_right (by decide) h) (by decide)
def pp_lf (qq : Nat) (mq fq sn : Nat → Nat) (a : Nat → Nat) : Nat → Int64 := fun t => lN (pp_fac qq mq fq sn t a)
def pp_wt (cn qq : Nat) (mq fq sn : Nat → Nat) (a : Nat → Nat) : Int64 := pp_prod (pp_lf qq mq fq sn a) cn
def pp_msum (f : Nat → Int64) : Nat → Int64
  | 0 => 0
  | n + 1 => pp_msum f n + f n
def pp_m1 (cn qq : Nat) (mq fq sn : Nat → Nat) : Nat → Int64 := fun a1 => pp_wt cn qq mq fq sn (pp_dig a1)
def pp_m2 (cn qq : Nat) (mq fq sn : Nat → Nat) (j g r h : Nat) : Nat → Int64 := fun a1 => if pp_dig a1 j = g ∧ pp_dig a1 r = h then pp_wt cn qq mq fq sn (pp_dig a1) else 0
def pp_m3 (cn qq : Nat) (mq fq sn : Nat → Nat) (j : Nat) : Nat → Int64 := fun a1 => pp_wt cn qq mq fq sn (pp_dig a1) * lN (pp_dig a1 j)
def pp_mtwo (cn qq : Nat) (mq fq sn : Nat → Nat) (x y z v : Int32) : Int64 := if pp_bad cn x = 0 ∧ pp_bad cn z = 0 ∧ pp_bdg y = 0 ∧ pp_bdg v = 0 then pp_msum (pp_m2 cn qq mq fq sn (pp_j x) (pp_j y) (pp_j z) (pp_j v)) (3 ^ cn) else 0
def pp_mcop (cn qq : Nat) (mq fq sn : Nat → Nat) (x : Int32) : Int64 := if pp_bad cn x = 0 then pp_msum (pp_m3 cn qq mq fq sn (pp_j x)) (3 ^ cn) else 0
def pp_poss (cn qq : Nat) (mq fq sn : Nat → Nat) (a : Nat → Nat) : Nat := if ∀ t, t < cn → pp_fac qq mq fq sn t a ≠ 0 then 1 else 0
theorem pp_poss_lt (cn qq : Nat) (mq fq sn : Nat → Nat) (a : Nat → Nat) : pp_poss cn qq mq fq sn a < 2 := by unfold pp_poss; split <;> decide
def pp_mps (cn qq : Nat) (mq fq sn : Nat → Nat) (j : Nat) : Nat → Nat
  | 0 => 0
  | k + 1 => if pp_poss cn qq mq fq sn (pp_dig k) = 0 then pp_mps cn qq mq fq sn j k else pp_mps cn qq mq fq sn j k ||| 2 ^ pp_dig k j
def pp_mpos (cn qq : Nat) (mq fq sn : Nat → Nat) (x : Int32) : Nat := if pp_bad cn x = 0 then pp_mps cn qq mq fq sn (pp_j x) (3 ^ cn) else 0
def pp_pr0 (mq fq : Nat → Nat) (r : Nat) : Nat := if mq r = 0 then 0 else 2 ^ (mq r - 1) ||| 2 ^ (fq r - 1)
def pp_mbef (cn : Nat) (mq fq : Nat → Nat) (x y : Int32) : Nat := if pp_bad cn x = 0 ∧ pp_bad cn y = 0 ∧ pp_bt (pp_anc mq fq cn (pp_pr0 mq fq (pp_j y))) (pp_j x) = 1 then 1 else 0
set_option maxHeartbeats 4000000 in
set_option maxRecDepth 100000 in
theorem mM_isPerson (l : Launch) (D : va_G) (dA dL : ClassId) (ad : Nat → Nat) (cn qq : Nat) (mq fq sn : Nat → Nat) (x : Int32) : Met l yX1_isPerson (ws_ yX1_isPerson cX1_isPerson 2 (some .boolean)) ({ frames := 0, cells := 0, slots := 0, locals := 0 } : Room) (pp_Pc D dA dL (pp_WM dA dL ad cn qq mq fq sn) [.ref (ad 0), .int x]) (vp_Si (fun z0 => z0 = (nI (1 - pp_bad cn x)))) 0 0 (fun _ => False) := by
  refine pp_ofM (by decide) rfl (Nat.le_of_ble_eq_true rfl) ?_
  intro p e s m below meth c ls hC hr hlocks hw hl
  have hx := hC.1.1
  have hb := hC.1.2.1
  have hl : lv_has ls 2 [(0, .ref (ad 0)), (1, .int x)] := hl
  refine lv_iload_n hx hb dX1_isPerson_0 rfl (lv_at hl 1 rfl) ?_
  refine lv_if_lt (tgt := 16) hx hb dX1_isPerson_1 (by decide) (fun h1 => ?_) (fun h1 => ?_)
  · refine lv_iconst (v := (nI 0)) hx hb dX1_isPerson_16 (by decide) ?_
    exact pp_rS_z hx hb hr hlocks dX1_isPerson_17 (by unfold pp_bad; first | rw [if_pos (Or.inl h1)] | rw [if_pos (Or.inr (Int32.not_lt.mpr h2))]) (by decide)
  · refine lv_iload_n hx hb dX1_isPerson_4 rfl (lv_at hl 1 rfl) ?_
    refine lv_aload_n hx hb dX1_isPerson_5 rfl (lv_at hl 0 rfl) ?_
    refine mg_cn hC hw dX1_isPerson_6 ?_
    refine lv_icmp_ge (tgt := 16) hx hb dX1_isPerson_9 (by decide) (fun h2 => ?_) (fun h2 => ?_)
    · refine lv_iconst (v := (nI 0)) hx hb dX1_isPerson_16 (by decide) ?_
      exact pp_rS_z hx hb hr hlocks dX1_isPerson_17 (by unfold pp_bad; first | rw [if_pos (Or.inl h1)] | rw [if_pos (Or.inr (Int32.not_lt.mpr h2))]) (by decide)
    · refine lv_iconst (v := (nI 1)) hx hb dX1_isPerson_12 (by decide) ?_
      refine lv_goto (tgt := 17) hx hb dX1_isPerson_13 (by decide) ?_
      exact pp_rS_z hx hb hr hlocks dX1_isPerson_17 (by unfold pp_bad; rw [if_neg (fun z => z.elim h1 (fun y => y (Int32.not_le.mp h2)))]) (by decide)
section PC_M_isPerson
variable {p : Program} {l : Launch} {e : Env} {R : Room} {s : State} {m : MethodId} {args : Array Value} {below : List Frame} {meth : Method} {c : Code} {H : Heap} {locs : List Loc} {cells slots : Nat} {Q : State → Prop}
variable {cc : ByteArray} {pc nL : Nat} {ls : Array Slot} {rest : List Value}
variable {D : va_G} {dA dL : ClassId} {ad : Nat → Nat} {A : Nat → Prop} {H0 : Heap} {cn qq : Nat} {mq fq sn : Nat → Nat}
set_option maxRecDepth 100000 in
theorem mc_isPerson (hC : pp_CX p m c cc nL s args RX1 D dA dL) (hw : pp_IM D dA dL ad A H0 cn qq mq fq sn H locs) {x : Int32} (hR : pp_RM R cells slots 1 21) (hsz : ls.size = nL) (hrest : (rest.map fun v => v.category).sum ≤ 8) (hdg : decode cc pc = .ok (.invokevirtual 30, 3)) (kk : W p l e R s m args below meth c H locs cells slots Q (F0 m (pc + 3) ls (.int (nI (1 - pp_bad cn x)) :: rest))) : W p l e R s m args below meth c H locs cells slots Q (F0 m pc ls (.int x :: .ref (ad 0) :: rest)) := pp_cS_i (n := 1) hC hw.1 hw.2.1 (mM_isPerson l D dA dL ad cn qq mq fq sn x) (lw_V q242 q244 qs19 q31 q245) (by decide +kernel) rfl rfl rfl hR (va_recv hC.2 hw.1 (ci := 1) (q0 := 0) rfl rfl) hsz hrest hdg rfl (fun r h => by rw [h]; exact kk)
end PC_M_isPerson
set_option maxHeartbeats 4000000 in
set_option maxRecDepth 100000 in
theorem mM_isGenotype (l : Launch) (D : va_G) (dA dL : ClassId) (ad : Nat → Nat) (cn qq : Nat) (mq fq sn : Nat → Nat) (x : Int32) : Met l yX1_isGenotype (ws_ yX1_isGenotype cX1_isGenotype 2 (some .boolean)) ({ frames := 0, cells := 0, slots := 0, locals := 0 } : Room) (pp_Pc D dA dL (pp_WM dA dL ad cn qq mq fq sn) [.ref (ad 0), .int x]) (vp_Si (fun z0 => z0 = (nI (1 - pp_bdg x)))) 0 0 (fun _ => False) := by
  refine pp_ofM (by decide) rfl (Nat.le_of_ble_eq_true rfl) ?_
  intro p e s m below meth c ls hC hr hlocks hw hl
  have hx := hC.1.1
  have hb := hC.1.2.1
  have hl : lv_has ls 2 [(0, .ref (ad 0)), (1, .int x)] := hl
  refine lv_iload_n hx hb dX1_isGenotype_0 rfl (lv_at hl 1 rfl) ?_
  refine lv_if_lt (tgt := 13) hx hb dX1_isGenotype_1 (by decide) (fun h1 => ?_) (fun h1 => ?_)
  · refine lv_iconst (v := (nI 0)) hx hb dX1_isGenotype_13 (by decide) ?_
    exact pp_rS_z hx hb hr hlocks dX1_isGenotype_14 (by unfold pp_bdg; first | rw [if_pos (Or.inl h1)] | rw [if_pos (Or.inr (Int32.not_le.mpr h2))]) (by decide)
  · refine lv_iload_n hx hb dX1_isGenotype_4 rfl (lv_at hl 1 rfl) ?_
    refine lv_iconst (v := (nI 2)) hx hb dX1_isGenotype_5 (by decide) ?_
    refine lv_icmp_gt (tgt := 13) hx hb dX1_isGenotype_6 (by decide) (fun h2 => ?_) (fun h2 => ?_)
    · refine lv_iconst (v := (nI 0)) hx hb dX1_isGenotype_13 (by decide) ?_
      exact pp_rS_z hx hb hr hlocks dX1_isGenotype_14 (by unfold pp_bdg; first | rw [if_pos (Or.inl h1)] | rw [if_pos (Or.inr (Int32.not_le.mpr h2))]) (by decide)
    · refine lv_iconst (v := (nI 1)) hx hb dX1_isGenotype_9 (by decide) ?_
      refine lv_goto (tgt := 14) hx hb dX1_isGenotype_10 (by decide) ?_
      exact pp_rS_z hx hb hr hlocks dX1_isGenotype_14 (by unfold pp_bdg; rw [if_neg (fun z => z.elim h1 (fun y => y (Int32.not_lt.mp h2)))]) (by decide)
section PC_M_isGenotype
variable {p : Program} {l : Launch} {e : Env} {R : Room} {s : State} {m : MethodId} {args : Array Value} {below : List Frame} {meth : Method} {c : Code} {H : Heap} {locs : List Loc} {cells slots : Nat} {Q : State → Prop}
variable {cc : ByteArray} {pc nL : Nat} {ls : Array Slot} {rest : List Value}
variable {D : va_G} {dA dL : ClassId} {ad : Nat → Nat} {A : Nat → Prop} {H0 : Heap} {cn qq : Nat} {mq fq sn : Nat → Nat}
set_option maxRecDepth 100000 in
theorem mc_isGenotype (hC : pp_CX p m c cc nL s args RX1 D dA dL) (hw : pp_IM D dA dL ad A H0 cn qq mq fq sn H locs) {x : Int32} (hR : pp_RM R cells slots 1 21) (hsz : ls.size = nL) (hrest : (rest.map fun v => v.category).sum ≤ 8) (hdg : decode cc pc = .ok (.invokevirtual 34, 3)) (kk : W p l e R s m args below meth c H locs cells slots Q (F0 m (pc + 3) ls (.int (nI (1 - pp_bdg x)) :: rest))) : W p l e R s m args below meth c H locs cells slots Q (F0 m pc ls (.int x :: .ref (ad 0) :: rest)) := pp_cS_i (n := 1) hC hw.1 hw.2.1 (mM_isGenotype l D dA dL ad cn qq mq fq sn x) (lw_V q262 q264 qs20 q31 q265) (by decide +kernel) rfl rfl rfl hR (va_recv hC.2 hw.1 (ci := 1) (q0 := 0) rfl rfl) hsz hrest hdg rfl (fun r h => by rw [h]; exact kk)
end PC_M_isGenotype
section PL_powerM
variable {p : Program} {l : Launch} {e : Env} {R : Room} {s : State} {m : MethodId} {args : Array Value} {below : List Frame} {meth : Method} {c : Code} {H : Heap} {locs : List Loc} {cells slots : Nat} {Q : State → Prop}
variable {cc : ByteArray} {pc nL : Nat} {ls : Array Slot} {rest : List Value}
variable {D : va_G} {dA dL : ClassId} {ad : Nat → Nat} {A : Nat → Prop} {H0 : Heap} {cn qq : Nat} {mq fq sn : Nat → Nat}
set_option maxHeartbeats 4000000 in
set_option maxRecDepth 100000 in
theorem lM_power (hC : pp_CX p m c cX1_power 4 s args RX1 D dA dL) {k : Nat} (hk : k ≤ 7) : ∀ (n : Nat) (i : Nat) (ls : Array Slot), k - i = n → i ≤ k → lv_has ls 4 [(0, .ref (ad 0)), (1, .int (nI k)), (2, .int (nI (3 ^ i))), (3, .int (nI i))] → (∀ (ls : Array Slot), lv_has ls 4 [(0, .ref (ad 0)), (1, .int (nI k)), (2, .int (nI (3 ^ k))), (3, .int (nI k))] → W p l e R s m args below meth c H locs cells slots Q (F0 m 19 ls [])) → W p l e R s m args below meth c H locs cells slots Q (F0 m 4 ls []) := by
  have hx := hC.1.1
  have hb := hC.1.2.1
  intro n
  induction n using Nat.strongRecOn with
  | ind n ih =>
    intro i ls hn g1 hl kk1
    refine lv_iload_n hx hb dX1_power_4 rfl (lv_at hl 3 rfl) ?_
    refine lv_iload_n hx hb dX1_power_5 rfl (lv_at hl 1 rfl) ?_
    refine nr_ge (tgt := 19) hx hb dX1_power_6 (by decide) (by omega) (by omega) (fun h1 => ?_) (fun h1 => ?_)
    · obtain rfl : i = k := by omega
      exact kk1 ls hl
    · refine lv_iconst (v := (nI 3)) hx hb dX1_power_9 (by decide) ?_
      refine lv_iload_n hx hb dX1_power_10 rfl (lv_at hl 2 rfl) ?_
      refine nr_mul hx hb dX1_power_11 ?_
      refine nr_top (y := (nI (3 ^ (i + 1)))) (by rw [Nat.pow_succ, Nat.mul_comm]) ?_
      refine lv_istore_n (lv' := [(2, .int (nI (3 ^ (i + 1)))), (0, .ref (ad 0)), (1, .int (nI k)), (3, .int (nI i))]) hx hb dX1_power_12 rfl hl (by decide) rfl (fun ls hl => ?_)
      refine lv_iinc (v := (nI (i + 1))) (lv' := [(3, .int (nI (i + 1))), (2, .int (nI (3 ^ (i + 1)))), (0, .ref (ad 0)), (1, .int (nI k))]) hx hb dX1_power_13 hl (k := 3) rfl (pn_inc _) (by decide) rfl (fun ls hl => ?_)
      refine lv_goto (tgt := 4) hx hb dX1_power_16 (by decide) ?_
      exact ih (k - (i + 1)) (by omega) (i + 1) ls rfl (by omega) (lv_sub hl [2, 3, 1, 0] rfl) kk1
end PL_powerM
set_option maxHeartbeats 4000000 in
set_option maxRecDepth 100000 in
theorem mM_power (l : Launch) (D : va_G) (dA dL : ClassId) (ad : Nat → Nat) (cn qq : Nat) (mq fq sn : Nat → Nat) (k : Nat) (hk : k ≤ 7) : Met l yX1_power (ws_ yX1_power cX1_power 4 (some .int)) ({ frames := 0, cells := 0, slots := 0, locals := 0 } : Room) (pp_Pc D dA dL (pp_WM dA dL ad cn qq mq fq sn) [.ref (ad 0), .int (nI k)]) (vp_Si (fun z0 => z0 = (nI (3 ^ k)))) 0 0 (fun _ => False) := by
  refine pp_ofM (by decide) rfl (Nat.le_of_ble_eq_true rfl) ?_
  intro p e s m below meth c ls hC hr hlocks hw hl
  have hx := hC.1.1
  have hb := hC.1.2.1
  have hl : lv_has ls 4 [(0, .ref (ad 0)), (1, .int (nI k))] := hl
  refine lv_iconst (v := (nI 1)) hx hb dX1_power_0 (by decide) ?_
  refine lv_istore_n (lv' := [(2, .int (nI 1)), (0, .ref (ad 0)), (1, .int (nI k))]) hx hb dX1_power_1 rfl hl (by decide) rfl (fun ls hl => ?_)
  refine lv_iconst (v := (nI 0)) hx hb dX1_power_2 (by decide) ?_
  refine lv_istore_n (lv' := [(3, .int (nI 0)), (2, .int (nI 1)), (0, .ref (ad 0)), (1, .int (nI k))]) hx hb dX1_power_3 rfl hl (by decide) rfl (fun ls hl => ?_)
  refine lM_power hC hk k 0 ls rfl (Nat.zero_le k) (lv_sub hl [2, 3, 1, 0] rfl) (fun ls hl => ?_)
  refine lv_iload_n hx hb dX1_power_19 rfl (lv_at hl 2 rfl) ?_
  exact pp_rS_i hx hb hr hlocks dX1_power_20 rfl
section PC_M_power
variable {p : Program} {l : Launch} {e : Env} {R : Room} {s : State} {m : MethodId} {args : Array Value} {below : List Frame} {meth : Method} {c : Code} {H : Heap} {locs : List Loc} {cells slots : Nat} {Q : State → Prop}
variable {cc : ByteArray} {pc nL : Nat} {ls : Array Slot} {rest : List Value}
variable {D : va_G} {dA dL : ClassId} {ad : Nat → Nat} {A : Nat → Prop} {H0 : Heap} {cn qq : Nat} {mq fq sn : Nat → Nat}
set_option maxRecDepth 100000 in
theorem mc_power (hC : pp_CX p m c cc nL s args RX1 D dA dL) (hw : pp_IM D dA dL ad A H0 cn qq mq fq sn H locs) {k : Nat} (hk : k ≤ 7) (hR : pp_RM R cells slots 1 23) (hsz : ls.size = nL) (hrest : (rest.map fun v => v.category).sum ≤ 8) (hdg : decode cc pc = .ok (.invokevirtual 37, 3)) (kk : W p l e R s m args below meth c H locs cells slots Q (F0 m (pc + 3) ls (.int (nI (3 ^ k)) :: rest))) : W p l e R s m args below meth c H locs cells slots Q (F0 m pc ls (.int (nI k) :: .ref (ad 0) :: rest)) := pp_cS_i (n := 1) hC hw.1 hw.2.1 (mM_power l D dA dL ad cn qq mq fq sn k hk) (lw_V q274 q276 qs21 q31 q277) (by decide +kernel) rfl rfl rfl hR (va_recv hC.2 hw.1 (ci := 1) (q0 := 0) rfl rfl) hsz hrest hdg rfl (fun r h => by rw [h]; exact kk)
end PC_M_power
set_option maxHeartbeats 4000000 in
set_option maxRecDepth 100000 in
theorem mM_genotype (l : Launch) (D : va_G) (dA dL : ClassId) (ad : Nat → Nat) (cn qq : Nat) (mq fq sn : Nat → Nat) (a1 : Nat) (r : Nat) (hA : a1 < 2 ^ 31) (hr7 : r ≤ 7) : Met l yX1_genotype (ws_ yX1_genotype cX1_genotype 4 (some .int)) ({ frames := 1, cells := 0, slots := 0, locals := 23 } : Room) (pp_Pc D dA dL (pp_WM dA dL ad cn qq mq fq sn) [.ref (ad 0), .int (nI a1), .int (nI r)]) (vp_Si (fun z0 => z0 = (nI (pp_dig a1 r)))) 0 0 (fun _ => False) := by
  refine pp_ofM (by decide) rfl (Nat.le_of_ble_eq_true rfl) ?_
  intro p e s m below meth c ls hC hr hlocks hw hl
  have hx := hC.1.1
  have hb := hC.1.2.1
  have hl : lv_has ls 4 [(0, .ref (ad 0)), (1, .int (nI a1)), (2, .int (nI r))] := hl
  have hR : pp_RM ({ frames := 1, cells := 0, slots := 0, locals := 23 } : Room) 0 0 1 23 := ⟨Nat.le_of_ble_eq_true rfl, Nat.le_of_ble_eq_true rfl, Nat.le_of_ble_eq_true rfl, Nat.le_of_ble_eq_true rfl⟩
  refine lv_aload_n hx hb dX1_genotype_0 rfl (lv_at hl 0 rfl) ?_
  refine lv_iload_n hx hb dX1_genotype_1 rfl (lv_at hl 2 rfl) ?_
  refine mc_power  hC hw hr7 (hR.le (by decide) (by decide)) hl.1 (Nat.le_of_ble_eq_true rfl) dX1_genotype_2 ?_
  refine lv_istore_n (lv' := [(3, .int (nI (3 ^ r))), (0, .ref (ad 0)), (1, .int (nI a1)), (2, .int (nI r))]) hx hb dX1_genotype_5 rfl hl (by decide) rfl (fun ls hl => ?_)
  refine lv_iload_n hx hb dX1_genotype_6 rfl (lv_at hl 2 rfl) ?_
  refine lv_iload_n hx hb dX1_genotype_7 rfl (lv_at hl 0 rfl) ?_
  refine nr_div hx hb hA (Nat.pow_pos (by decide)) (by have := pp_3lt hr7; omega) dX1_genotype_8 ?_
  refine lv_iconst (v := (nI 3)) hx hb dX1_genotype_9 (by decide) ?_
  refine nr_rem hx hb (Nat.lt_of_le_of_lt (Nat.div_le_self _ _) hA) (by decide) (by decide) dX1_genotype_10 ?_
  exact pp_rS_i hx hb hr hlocks dX1_genotype_11 rfl
section PC_M_genotype
variable {p : Program} {l : Launch} {e : Env} {R : Room} {s : State} {m : MethodId} {args : Array Value} {below : List Frame} {meth : Method} {c : Code} {H : Heap} {locs : List Loc} {cells slots : Nat} {Q : State → Prop}
variable {cc : ByteArray} {pc nL : Nat} {ls : Array Slot} {rest : List Value}
variable {D : va_G} {dA dL : ClassId} {ad : Nat → Nat} {A : Nat → Prop} {H0 : Heap} {cn qq : Nat} {mq fq sn : Nat → Nat}
set_option maxRecDepth 100000 in
theorem mc_genotype (hC : pp_CX p m c cc nL s args RX1 D dA dL) (hw : pp_IM D dA dL ad A H0 cn qq mq fq sn H locs) {a1 : Nat} {r : Nat} (hA : a1 < 2 ^ 31) (hr7 : r ≤ 7) (hR : pp_RM R cells slots 2 46) (hsz : ls.size = nL) (hrest : (rest.map fun v => v.category).sum ≤ 8) (hdg : decode cc pc = .ok (.invokevirtual 41, 3)) (kk : W p l e R s m args below meth c H locs cells slots Q (F0 m (pc + 3) ls (.int (nI (pp_dig a1 r)) :: rest))) : W p l e R s m args below meth c H locs cells slots Q (F0 m pc ls (.int (nI r) :: .int (nI a1) :: .ref (ad 0) :: rest)) := pp_cS_i (n := 2) hC hw.1 hw.2.1 (mM_genotype l D dA dL ad cn qq mq fq sn a1 r hA hr7) (lw_V q286 q288 qs24 q31 q289) (by decide +kernel) rfl rfl rfl hR (va_recv hC.2 hw.1 (ci := 1) (q0 := 0) rfl rfl) hsz hrest hdg rfl (fun r h => by rw [h]; exact kk)
end PC_M_genotype
set_option maxHeartbeats 4000000 in
set_option maxRecDepth 100000 in
theorem mM_inherited (l : Launch) (D : va_G) (dA dL : ClassId) (ad : Nat → Nat) (cn qq : Nat) (mq fq sn : Nat → Nat) (a : Nat) (b : Nat) (g : Nat) (ha : a < 3) (hb3 : b < 3) (hg : g < 3) : Met l yX1_inherited (ws_ yX1_inherited cX1_inherited 4 (some .int)) ({ frames := 0, cells := 0, slots := 0, locals := 0 } : Room) (pp_Pc D dA dL (pp_WM dA dL ad cn qq mq fq sn) [.ref (ad 0), .int (nI a), .int (nI b), .int (nI g)]) (vp_Si (fun z0 => z0 = (nI (pp_ps g a b)))) 0 0 (fun _ => False) := by
  refine pp_ofM (by decide) rfl (Nat.le_of_ble_eq_true rfl) ?_
  intro p e s m below meth c ls hC hr hlocks hw hl
  have hx := hC.1.1
  have hb := hC.1.2.1
  have hl : lv_has ls 4 [(0, .ref (ad 0)), (1, .int (nI a)), (2, .int (nI b)), (3, .int (nI g))] := hl
  refine lv_iload_n hx hb dX1_inherited_0 rfl (lv_at hl 3 rfl) ?_
  refine nr_z_ne (tgt := 14) hx hb dX1_inherited_1 (by decide) (by omega) (fun h1 => ?_) (fun h1 => ?_)
  · refine lv_iload_n hx hb dX1_inherited_14 rfl (lv_at hl 3 rfl) ?_
    refine lv_iconst (v := (nI 1)) hx hb dX1_inherited_15 (by decide) ?_
    refine nr_ne (tgt := 33) hx hb dX1_inherited_16 (by decide) (by omega) (by omega) (fun h2 => ?_) (fun h2 => ?_)
    · refine lv_iload_n hx hb dX1_inherited_33 rfl (lv_at hl 1 rfl) ?_
      refine lv_iload_n hx hb dX1_inherited_34 rfl (lv_at hl 2 rfl) ?_
      refine nr_mul hx hb dX1_inherited_35 ?_
      exact pp_rS_i hx hb hr hlocks dX1_inherited_36 (by unfold pp_ps; first | rw [if_pos h1] | rw [if_neg h1, if_pos h2] | rw [if_neg h1, if_neg h2])
    · refine lv_iload_n hx hb dX1_inherited_19 rfl (lv_at hl 1 rfl) ?_
      refine lv_iconst (v := (nI 2)) hx hb dX1_inherited_20 (by decide) ?_
      refine lv_iload_n hx hb dX1_inherited_21 rfl (lv_at hl 2 rfl) ?_
      refine nr_sub hx hb (by omega) dX1_inherited_22 ?_
      refine nr_mul hx hb dX1_inherited_23 ?_
      refine lv_iconst (v := (nI 2)) hx hb dX1_inherited_24 (by decide) ?_
      refine lv_iload_n hx hb dX1_inherited_25 rfl (lv_at hl 1 rfl) ?_
      refine nr_sub hx hb (by omega) dX1_inherited_26 ?_
      refine lv_iload_n hx hb dX1_inherited_27 rfl (lv_at hl 2 rfl) ?_
      refine nr_mul hx hb dX1_inherited_28 ?_
      refine nr_add hx hb dX1_inherited_29 ?_
      refine lv_goto (tgt := 36) hx hb dX1_inherited_30 (by decide) ?_
      exact pp_rS_i hx hb hr hlocks dX1_inherited_36 (by unfold pp_ps; first | rw [if_pos h1] | rw [if_neg h1, if_pos h2] | rw [if_neg h1, if_neg h2])
  · refine lv_iconst (v := (nI 2)) hx hb dX1_inherited_4 (by decide) ?_
    refine lv_iload_n hx hb dX1_inherited_5 rfl (lv_at hl 1 rfl) ?_
    refine nr_sub hx hb (by omega) dX1_inherited_6 ?_
    refine lv_iconst (v := (nI 2)) hx hb dX1_inherited_7 (by decide) ?_
    refine lv_iload_n hx hb dX1_inherited_8 rfl (lv_at hl 2 rfl) ?_
    refine nr_sub hx hb (by omega) dX1_inherited_9 ?_
    refine nr_mul hx hb dX1_inherited_10 ?_
    refine lv_goto (tgt := 36) hx hb dX1_inherited_11 (by decide) ?_
    exact pp_rS_i hx hb hr hlocks dX1_inherited_36 (by unfold pp_ps; first | rw [if_pos h1] | rw [if_neg h1, if_pos h2] | rw [if_neg h1, if_neg h2])
section PC_M_inherited
variable {p : Program} {l : Launch} {e : Env} {R : Room} {s : State} {m : MethodId} {args : Array Value} {below : List Frame} {meth : Method} {c : Code} {H : Heap} {locs : List Loc} {cells slots : Nat} {Q : State → Prop}
variable {cc : ByteArray} {pc nL : Nat} {ls : Array Slot} {rest : List Value}
variable {D : va_G} {dA dL : ClassId} {ad : Nat → Nat} {A : Nat → Prop} {H0 : Heap} {cn qq : Nat} {mq fq sn : Nat → Nat}
set_option maxRecDepth 100000 in
theorem mc_inherited (hC : pp_CX p m c cc nL s args RX1 D dA dL) (hw : pp_IM D dA dL ad A H0 cn qq mq fq sn H locs) {a : Nat} {b : Nat} {g : Nat} (ha : a < 3) (hb3 : b < 3) (hg : g < 3) (hR : pp_RM R cells slots 1 23) (hsz : ls.size = nL) (hrest : (rest.map fun v => v.category).sum ≤ 8) (hdg : decode cc pc = .ok (.invokevirtual 47, 3)) (kk : W p l e R s m args below meth c H locs cells slots Q (F0 m (pc + 3) ls (.int (nI (pp_ps g a b)) :: rest))) : W p l e R s m args below meth c H locs cells slots Q (F0 m pc ls (.int (nI g) :: .int (nI b) :: .int (nI a) :: .ref (ad 0) :: rest)) := pp_cS_i (n := 3) hC hw.1 hw.2.1 (mM_inherited l D dA dL ad cn qq mq fq sn a b g ha hb3 hg) (lw_V q294 q296 qs26 q31 q297) (by decide +kernel) rfl rfl rfl hR (va_recv hC.2 hw.1 (ci := 1) (q0 := 0) rfl rfl) hsz hrest hdg rfl (fun r h => by rw [h]; exact kk)
end PC_M_inherited
set_option maxHeartbeats 4000000 in
set_option maxRecDepth 100000 in
theorem mM_founded (l : Launch) (D : va_G) (dA dL : ClassId) (ad : Nat → Nat) (cn qq : Nat) (mq fq sn : Nat → Nat) (g : Nat) (hq : qq ≤ 16) (hg : g < 3) : Met l yX1_founded (ws_ yX1_founded cX1_founded 2 (some .int)) ({ frames := 0, cells := 0, slots := 0, locals := 0 } : Room) (pp_Pc D dA dL (pp_WM dA dL ad cn qq mq fq sn) [.ref (ad 0), .int (nI g)]) (vp_Si (fun z0 => z0 = (nI (pp_fw qq g)))) 0 0 (fun _ => False) := by
  refine pp_ofM (by decide) rfl (Nat.le_of_ble_eq_true rfl) ?_
  intro p e s m below meth c ls hC hr hlocks hw hl
  have hx := hC.1.1
  have hb := hC.1.2.1
  have hl : lv_has ls 2 [(0, .ref (ad 0)), (1, .int (nI g))] := hl
  refine lv_iload_n hx hb dX1_founded_0 rfl (lv_at hl 1 rfl) ?_
  refine nr_z_ne (tgt := 22) hx hb dX1_founded_1 (by decide) (by omega) (fun h1 => ?_) (fun h1 => ?_)
  · refine lv_iload_n hx hb dX1_founded_22 rfl (lv_at hl 1 rfl) ?_
    refine lv_iconst (v := (nI 1)) hx hb dX1_founded_23 (by decide) ?_
    refine nr_ne (tgt := 44) hx hb dX1_founded_24 (by decide) (by omega) (by omega) (fun h2 => ?_) (fun h2 => ?_)
    · refine lv_aload_n hx hb dX1_founded_44 rfl (lv_at hl 0 rfl) ?_
      refine mg_qq hC hw dX1_founded_45 ?_
      refine lv_aload_n hx hb dX1_founded_48 rfl (lv_at hl 0 rfl) ?_
      refine mg_qq hC hw dX1_founded_49 ?_
      refine nr_mul hx hb dX1_founded_52 ?_
      exact pp_rS_i hx hb hr hlocks dX1_founded_53 (by unfold pp_fw; first | rw [if_pos h1] | rw [if_neg h1, if_pos h2] | rw [if_neg h1, if_neg h2])
    · refine lv_iconst (v := (nI 2)) hx hb dX1_founded_27 (by decide) ?_
      refine lv_aload_n hx hb dX1_founded_28 rfl (lv_at hl 0 rfl) ?_
      refine mg_qq hC hw dX1_founded_29 ?_
      refine nr_mul hx hb dX1_founded_32 ?_
      refine lv_bipush (v := (nI 16)) hx hb dX1_founded_33 (by decide) ?_
      refine lv_aload_n hx hb dX1_founded_35 rfl (lv_at hl 0 rfl) ?_
      refine mg_qq hC hw dX1_founded_36 ?_
      refine nr_sub hx hb (by omega) dX1_founded_39 ?_
      refine nr_mul hx hb dX1_founded_40 ?_
      refine lv_goto (tgt := 53) hx hb dX1_founded_41 (by decide) ?_
      exact pp_rS_i hx hb hr hlocks dX1_founded_53 (by unfold pp_fw; first | rw [if_pos h1] | rw [if_neg h1, if_pos h2] | rw [if_neg h1, if_neg h2])
  · refine lv_bipush (v := (nI 16)) hx hb dX1_founded_4 (by decide) ?_
    refine lv_aload_n hx hb dX1_founded_6 rfl (lv_at hl 0 rfl) ?_
    refine mg_qq hC hw dX1_founded_7 ?_
    refine nr_sub hx hb (by omega) dX1_founded_10 ?_
    refine lv_bipush (v := (nI 16)) hx hb dX1_founded_11 (by decide) ?_
    refine lv_aload_n hx hb dX1_founded_13 rfl (lv_at hl 0 rfl) ?_
    refine mg_qq hC hw dX1_founded_14 ?_
    refine nr_sub hx hb (by omega) dX1_founded_17 ?_
    refine nr_mul hx hb dX1_founded_18 ?_
    refine lv_goto (tgt := 53) hx hb dX1_founded_19 (by decide) ?_
    exact pp_rS_i hx hb hr hlocks dX1_founded_53 (by unfold pp_fw; first | rw [if_pos h1] | rw [if_neg h1, if_pos h2] | rw [if_neg h1, if_neg h2])
section PC_M_founded
variable {p : Program} {l : Launch} {e : Env} {R : Room} {s : State} {m : MethodId} {args : Array Value} {below : List Frame} {meth : Method} {c : Code} {H : Heap} {locs : List Loc} {cells slots : Nat} {Q : State → Prop}
variable {cc : ByteArray} {pc nL : Nat} {ls : Array Slot} {rest : List Value}
variable {D : va_G} {dA dL : ClassId} {ad : Nat → Nat} {A : Nat → Prop} {H0 : Heap} {cn qq : Nat} {mq fq sn : Nat → Nat}
set_option maxRecDepth 100000 in
theorem mc_founded (hC : pp_CX p m c cc nL s args RX1 D dA dL) (hw : pp_IM D dA dL ad A H0 cn qq mq fq sn H locs) {g : Nat} (hq : qq ≤ 16) (hg : g < 3) (hR : pp_RM R cells slots 1 21) (hsz : ls.size = nL) (hrest : (rest.map fun v => v.category).sum ≤ 8) (hdg : decode cc pc = .ok (.invokevirtual 44, 3)) (kk : W p l e R s m args below meth c H locs cells slots Q (F0 m (pc + 3) ls (.int (nI (pp_fw qq g)) :: rest))) : W p l e R s m args below meth c H locs cells slots Q (F0 m pc ls (.int (nI g) :: .ref (ad 0) :: rest)) := pp_cS_i (n := 1) hC hw.1 hw.2.1 (mM_founded l D dA dL ad cn qq mq fq sn g hq hg) (lw_V q290 q292 qs25 q31 q293) (by decide +kernel) rfl rfl rfl hR (va_recv hC.2 hw.1 (ci := 1) (q0 := 0) rfl rfl) hsz hrest hdg rfl (fun r h => by rw [h]; exact kk)
end PC_M_founded
set_option maxHeartbeats 4000000 in
set_option maxRecDepth 100000 in
theorem mM_factor (l : Launch) (D : va_G) (dA dL : ClassId) (ad : Nat → Nat) (cn qq : Nat) (mq fq sn : Nat → Nat) (a1 : Nat) (r : Nat) (hA : a1 < 2 ^ 31) (hok : pp_ok cn qq mq fq sn) (hrc : r < cn) : Met l yX1_factor (ws_ yX1_factor cX1_factor 7 (some .int)) ({ frames := 2, cells := 0, slots := 0, locals := 46 } : Room) (pp_Pc D dA dL (pp_WM dA dL ad cn qq mq fq sn) [.ref (ad 0), .int (nI a1), .int (nI r)]) (vp_Si (fun z0 => z0 = (nI (pp_fac qq mq fq sn r (pp_dig a1))))) 0 0 (fun _ => False) := by
  refine pp_ofM (by decide) rfl (Nat.le_of_ble_eq_true rfl) ?_
  intro p e s m below meth c ls hC hr hlocks hw hl
  have hx := hC.1.1
  have hb := hC.1.2.1
  have hl : lv_has ls 7 [(0, .ref (ad 0)), (1, .int (nI a1)), (2, .int (nI r))] := hl
  have hR : pp_RM ({ frames := 2, cells := 0, slots := 0, locals := 46 } : Room) 0 0 2 46 := ⟨Nat.le_of_ble_eq_true rfl, Nat.le_of_ble_eq_true rfl, Nat.le_of_ble_eq_true rfl, Nat.le_of_ble_eq_true rfl⟩
  have hcn := hok.1
  have hpp := pp_par hok hrc
  have hG := pp_dig_G a1
  refine lv_aload_n hx hb dX1_factor_0 rfl (lv_at hl 0 rfl) ?_
  refine lv_iload_n hx hb dX1_factor_1 rfl (lv_at hl 1 rfl) ?_
  refine lv_iload_n hx hb dX1_factor_2 rfl (lv_at hl 2 rfl) ?_
  refine mc_genotype  hC hw hA (by omega) (hR.le (by decide) (by decide)) hl.1 (Nat.le_of_ble_eq_true rfl) dX1_factor_3 ?_
  refine lv_istore_n (lv' := [(3, .int (nI (pp_dig a1 r))), (0, .ref (ad 0)), (1, .int (nI a1)), (2, .int (nI r))]) hx hb dX1_factor_6 rfl hl (by decide) rfl (fun ls hl => ?_)
  refine lv_aload_n hx hb dX1_factor_7 rfl (lv_at hl 1 rfl) ?_
  refine mg_sn hC hw dX1_factor_8 ?_
  refine lv_iconst (v := (nI 3)) hx hb dX1_factor_11 (by decide) ?_
  refine lv_iload_n hx hb dX1_factor_12 rfl (lv_at hl 3 rfl) ?_
  refine nr_mul hx hb dX1_factor_13 ?_
  refine lv_iload_n hx hb dX1_factor_14 rfl (lv_at hl 0 rfl) ?_
  refine nr_add hx hb dX1_factor_15 ?_
  refine ml_sn hC hw (by have := hG r; omega) dX1_factor_16 ?_
  refine lv_istore (lv' := [(4, .int (nI (sn ((3 * r) + (pp_dig a1 r))))), (3, .int (nI (pp_dig a1 r))), (0, .ref (ad 0)), (1, .int (nI a1)), (2, .int (nI r))]) hx hb dX1_factor_17 hl (by decide) rfl (fun ls hl => ?_)
  refine lv_aload_n hx hb dX1_factor_19 rfl (lv_at hl 2 rfl) ?_
  refine mg_mq hC hw dX1_factor_20 ?_
  refine lv_iload_n hx hb dX1_factor_23 rfl (lv_at hl 4 rfl) ?_
  refine ml_mq hC hw (by omega) dX1_factor_24 ?_
  refine nr_m_ge (tgt := 37) hx hb dX1_factor_25 (by decide) (by omega) (fun h1 => ?_) (fun h1 => ?_)
  · refine lv_aload_n hx hb dX1_factor_37 rfl (lv_at hl 2 rfl) ?_
    refine lv_iload_n hx hb dX1_factor_38 rfl (lv_at hl 3 rfl) ?_
    refine lv_aload_n hx hb dX1_factor_39 rfl (lv_at hl 2 rfl) ?_
    refine mg_mq hC hw dX1_factor_40 ?_
    refine lv_iload_n hx hb dX1_factor_43 rfl (lv_at hl 4 rfl) ?_
    refine ml_mq hC hw (by omega) dX1_factor_44 ?_
    refine nr_top (y := (nI (mq r - 1))) (pn_m h1) ?_
    refine mc_genotype  hC hw hA (by omega) (hR.le (by decide) (by decide)) hl.1 (Nat.le_of_ble_eq_true rfl) dX1_factor_45 ?_
    refine lv_istore (lv' := [(5, .int (nI (pp_dig a1 (mq r - 1)))), (4, .int (nI (sn ((3 * r) + (pp_dig a1 r))))), (3, .int (nI (pp_dig a1 r))), (0, .ref (ad 0)), (1, .int (nI a1)), (2, .int (nI r))]) hx hb dX1_factor_48 hl (by decide) rfl (fun ls hl => ?_)
    refine lv_aload_n hx hb dX1_factor_50 rfl (lv_at hl 3 rfl) ?_
    refine lv_iload_n hx hb dX1_factor_51 rfl (lv_at hl 4 rfl) ?_
    refine lv_aload_n hx hb dX1_factor_52 rfl (lv_at hl 3 rfl) ?_
    refine mg_fq hC hw dX1_factor_53 ?_
    refine lv_iload_n hx hb dX1_factor_56 rfl (lv_at hl 5 rfl) ?_
    refine ml_fq hC hw (by omega) dX1_factor_57 ?_
    refine nr_top (y := (nI (fq r - 1))) (pn_m (hpp.2.2 h1)) ?_
    refine mc_genotype  hC hw hA (by omega) (hR.le (by decide) (by decide)) hl.1 (Nat.le_of_ble_eq_true rfl) dX1_factor_58 ?_
    refine lv_istore (lv' := [(6, .int (nI (pp_dig a1 (fq r - 1)))), (5, .int (nI (pp_dig a1 (mq r - 1)))), (4, .int (nI (sn ((3 * r) + (pp_dig a1 r))))), (3, .int (nI (pp_dig a1 r))), (0, .ref (ad 0)), (1, .int (nI a1)), (2, .int (nI r))]) hx hb dX1_factor_61 hl (by decide) rfl (fun ls hl => ?_)
    refine lv_iload hx hb dX1_factor_63 (lv_at hl 2 rfl) ?_
    refine lv_aload_n hx hb dX1_factor_65 rfl (lv_at hl 4 rfl) ?_
    refine lv_iload hx hb dX1_factor_66 (lv_at hl 1 rfl) ?_
    refine lv_iload hx hb dX1_factor_68 (lv_at hl 0 rfl) ?_
    refine lv_iload_n hx hb dX1_factor_70 rfl (lv_at hl 3 rfl) ?_
    refine mc_inherited  hC hw (hG _) (hG _) (hG _) (hR.le (by decide) (by decide)) hl.1 (Nat.le_of_ble_eq_true rfl) dX1_factor_71 ?_
    refine nr_mul hx hb dX1_factor_74 ?_
    refine nr_top (y := (nI (pp_fac qq mq fq sn r (pp_dig a1)))) (by unfold pp_fac pp_own; rw [if_neg h1, Nat.mul_comm]) ?_
    exact pp_rS_i hx hb hr hlocks dX1_factor_75 rfl
  · refine lv_iload hx hb dX1_factor_28 (lv_at hl 0 rfl) ?_
    refine lv_aload_n hx hb dX1_factor_30 rfl (lv_at hl 2 rfl) ?_
    refine lv_iload_n hx hb dX1_factor_31 rfl (lv_at hl 1 rfl) ?_
    refine mc_founded  hC hw hok.2.1 (hG _) (hR.le (by decide) (by decide)) hl.1 (Nat.le_of_ble_eq_true rfl) dX1_factor_32 ?_
    refine nr_mul hx hb dX1_factor_35 ?_
    refine nr_top (y := (nI (pp_fac qq mq fq sn r (pp_dig a1)))) (by unfold pp_fac pp_own; rw [if_pos h1, Nat.mul_comm]) ?_
    exact pp_rS_i hx hb hr hlocks dX1_factor_36 rfl
section PC_M_factor
variable {p : Program} {l : Launch} {e : Env} {R : Room} {s : State} {m : MethodId} {args : Array Value} {below : List Frame} {meth : Method} {c : Code} {H : Heap} {locs : List Loc} {cells slots : Nat} {Q : State → Prop}
variable {cc : ByteArray} {pc nL : Nat} {ls : Array Slot} {rest : List Value}
variable {D : va_G} {dA dL : ClassId} {ad : Nat → Nat} {A : Nat → Prop} {H0 : Heap} {cn qq : Nat} {mq fq sn : Nat → Nat}
set_option maxRecDepth 100000 in
theorem mc_factor (hC : pp_CX p m c cc nL s args RX1 D dA dL) (hw : pp_IM D dA dL ad A H0 cn qq mq fq sn H locs) {a1 : Nat} {r : Nat} (hA : a1 < 2 ^ 31) (hok : pp_ok cn qq mq fq sn) (hrc : r < cn) (hR : pp_RM R cells slots 3 72) (hsz : ls.size = nL) (hrest : (rest.map fun v => v.category).sum ≤ 8) (hdg : decode cc pc = .ok (.invokevirtual 51, 3)) (kk : W p l e R s m args below meth c H locs cells slots Q (F0 m (pc + 3) ls (.int (nI (pp_fac qq mq fq sn r (pp_dig a1))) :: rest))) : W p l e R s m args below meth c H locs cells slots Q (F0 m pc ls (.int (nI r) :: .int (nI a1) :: .ref (ad 0) :: rest)) := pp_cS_i (n := 2) hC hw.1 hw.2.1 (mM_factor l D dA dL ad cn qq mq fq sn a1 r hA hok hrc) (lw_V q282 q284 qs23 q31 q285) (by decide +kernel) rfl rfl rfl hR (va_recv hC.2 hw.1 (ci := 1) (q0 := 0) rfl rfl) hsz hrest hdg rfl (fun r h => by rw [h]; exact kk)
end PC_M_factor
section PL_weight
variable {p : Program} {l : Launch} {e : Env} {R : Room} {s : State} {m : MethodId} {args : Array Value} {below : List Frame} {meth : Method} {c : Code} {H : Heap} {locs : List Loc} {cells slots : Nat} {Q : State → Prop}
variable {cc : ByteArray} {pc nL : Nat} {ls : Array Slot} {rest : List Value}
variable {D : va_G} {dA dL : ClassId} {ad : Nat → Nat} {A : Nat → Prop} {H0 : Heap} {cn qq : Nat} {mq fq sn : Nat → Nat}
set_option maxHeartbeats 4000000 in
set_option maxRecDepth 100000 in
theorem lM_weight (hC : pp_CX p m c cX1_weight 5 s args RX1 D dA dL) (hw : pp_IM D dA dL ad A H0 cn qq mq fq sn H locs) (hR : pp_RM R cells slots 3 72) {a1 : Nat} (hA : a1 < 2 ^ 31) (hok : pp_ok cn qq mq fq sn) (hcn : cn ≤ 7) : ∀ (n : Nat) (i : Nat) (ls : Array Slot), cn - i = n → i ≤ cn → lv_has ls 5 [(0, .ref (ad 0)), (1, .int (nI a1)), (2, .long (pp_prod (pp_lf qq mq fq sn (pp_dig a1)) i)), (4, .int (nI i))] → (∀ (ls : Array Slot), lv_has ls 5 [(0, .ref (ad 0)), (1, .int (nI a1)), (2, .long (pp_prod (pp_lf qq mq fq sn (pp_dig a1)) cn)), (4, .int (nI cn))] → W p l e R s m args below meth c H locs cells slots Q (F0 m 31 ls [])) → W p l e R s m args below meth c H locs cells slots Q (F0 m 5 ls []) := by
  have hx := hC.1.1
  have hb := hC.1.2.1
  intro n
  induction n using Nat.strongRecOn with
  | ind n ih =>
    intro i ls hn g1 hl kk1
    refine lv_iload hx hb dX1_weight_5 (lv_at hl 3 rfl) ?_
    refine lv_aload_n hx hb dX1_weight_7 rfl (lv_at hl 0 rfl) ?_
    refine mg_cn hC hw dX1_weight_8 ?_
    refine nr_ge (tgt := 31) hx hb dX1_weight_11 (by decide) (by omega) (by omega) (fun h1 => ?_) (fun h1 => ?_)
    · obtain rfl : i = cn := by omega
      exact kk1 ls hl
    · refine lv_lload_n hx hb dX1_weight_14 rfl (lv_at hl 2 rfl) ?_
      refine lv_aload_n hx hb dX1_weight_15 rfl (lv_at hl 0 rfl) ?_
      refine lv_iload_n hx hb dX1_weight_16 rfl (lv_at hl 1 rfl) ?_
      refine lv_iload hx hb dX1_weight_17 (lv_at hl 3 rfl) ?_
      refine mc_factor  hC hw hA hok h1 (hR.le (by decide) (by decide)) hl.1 (Nat.le_of_ble_eq_true rfl) dX1_weight_19 ?_
      refine nr_i2l hx hb (by have := pp_fac_le (mq := mq) (fq := fq) (r := i) hok.2.1 hok.2.2.1 (pp_dig_G a1); omega) dX1_weight_22 ?_
      refine lv_lmul hx hb dX1_weight_23 ?_
      refine nr_topl (y := (pp_prod (pp_lf qq mq fq sn (pp_dig a1)) (i + 1))) (by rw [pp_prod]; rfl) ?_
      refine lv_lstore_n (lv' := [(2, .long (pp_prod (pp_lf qq mq fq sn (pp_dig a1)) (i + 1))), (0, .ref (ad 0)), (1, .int (nI a1)), (4, .int (nI i))]) hx hb dX1_weight_24 rfl hl (by decide) rfl (fun ls hl => ?_)
      refine lv_iinc (v := (nI (i + 1))) (lv' := [(4, .int (nI (i + 1))), (2, .long (pp_prod (pp_lf qq mq fq sn (pp_dig a1)) (i + 1))), (0, .ref (ad 0)), (1, .int (nI a1))]) hx hb dX1_weight_25 hl (k := 3) rfl (pn_inc _) (by decide) rfl (fun ls hl => ?_)
      refine lv_goto (tgt := 5) hx hb dX1_weight_28 (by decide) ?_
      exact ih (cn - (i + 1)) (by omega) (i + 1) ls rfl (by omega) (lv_sub hl [2, 3, 1, 0] rfl) kk1
end PL_weight
set_option maxHeartbeats 4000000 in
set_option maxRecDepth 100000 in
theorem mM_weight (l : Launch) (D : va_G) (dA dL : ClassId) (ad : Nat → Nat) (cn qq : Nat) (mq fq sn : Nat → Nat) (a1 : Nat) (hA : a1 < 2 ^ 31) (hok : pp_ok cn qq mq fq sn) : Met l yX1_weight (ws_ yX1_weight cX1_weight 5 (some .long)) ({ frames := 3, cells := 0, slots := 0, locals := 72 } : Room) (pp_Pc D dA dL (pp_WM dA dL ad cn qq mq fq sn) [.ref (ad 0), .int (nI a1)]) (vp_Sl (fun z0 => z0 = (pp_wt cn qq mq fq sn (pp_dig a1)))) 0 0 (fun _ => False) := by
  refine pp_ofM (by decide) rfl (Nat.le_of_ble_eq_true rfl) ?_
  intro p e s m below meth c ls hC hr hlocks hw hl
  have hx := hC.1.1
  have hb := hC.1.2.1
  have hl : lv_has ls 5 [(0, .ref (ad 0)), (1, .int (nI a1))] := hl
  have hR : pp_RM ({ frames := 3, cells := 0, slots := 0, locals := 72 } : Room) 0 0 3 72 := ⟨Nat.le_of_ble_eq_true rfl, Nat.le_of_ble_eq_true rfl, Nat.le_of_ble_eq_true rfl, Nat.le_of_ble_eq_true rfl⟩
  refine lv_lconst (v := 1) hx hb dX1_weight_0 (by decide) ?_
  refine lv_lstore_n (lv' := [(2, .long 1), (0, .ref (ad 0)), (1, .int (nI a1))]) hx hb dX1_weight_1 rfl hl (by decide) rfl (fun ls hl => ?_)
  refine lv_iconst (v := (nI 0)) hx hb dX1_weight_2 (by decide) ?_
  refine lv_istore (lv' := [(4, .int (nI 0)), (2, .long 1), (0, .ref (ad 0)), (1, .int (nI a1))]) hx hb dX1_weight_3 hl (by decide) rfl (fun ls hl => ?_)
  refine lM_weight hC hw hR hA hok hok.1 cn 0 ls rfl (Nat.zero_le cn) (lv_sub hl [2, 3, 1, 0] rfl) (fun ls hl => ?_)
  refine lv_lload_n hx hb dX1_weight_31 rfl (lv_at hl 2 rfl) ?_
  exact pp_rS_l hx hb hr hlocks dX1_weight_32 rfl
section PC_M_weight
variable {p : Program} {l : Launch} {e : Env} {R : Room} {s : State} {m : MethodId} {args : Array Value} {below : List Frame} {meth : Method} {c : Code} {H : Heap} {locs : List Loc} {cells slots : Nat} {Q : State → Prop}
variable {cc : ByteArray} {pc nL : Nat} {ls : Array Slot} {rest : List Value}
variable {D : va_G} {dA dL : ClassId} {ad : Nat → Nat} {A : Nat → Prop} {H0 : Heap} {cn qq : Nat} {mq fq sn : Nat → Nat}
set_option maxRecDepth 100000 in
theorem mc_weight (hC : pp_CX p m c cc nL s args RX1 D dA dL) (hw : pp_IM D dA dL ad A H0 cn qq mq fq sn H locs) {a1 : Nat} (hA : a1 < 2 ^ 31) (hok : pp_ok cn qq mq fq sn) (hR : pp_RM R cells slots 4 96) (hsz : ls.size = nL) (hrest : (rest.map fun v => v.category).sum ≤ 8) (hdg : decode cc pc = .ok (.invokevirtual 54, 3)) (kk : W p l e R s m args below meth c H locs cells slots Q (F0 m (pc + 3) ls (.long (pp_wt cn qq mq fq sn (pp_dig a1)) :: rest))) : W p l e R s m args below meth c H locs cells slots Q (F0 m pc ls (.int (nI a1) :: .ref (ad 0) :: rest)) := pp_cS_l (n := 1) hC hw.1 hw.2.1 (mM_weight l D dA dL ad cn qq mq fq sn a1 hA hok) (lw_V q278 q280 qs22 q31 q281) (by decide +kernel) rfl rfl rfl hR (va_recv hC.2 hw.1 (ci := 1) (q0 := 0) rfl rfl) hsz hrest hdg rfl (fun r h => by rw [h]; exact kk)
end PC_M_weight
end
section
section PL_likM
variable {p : Program} {l : Launch} {e : Env} {R : Room} {s : State} {m : MethodId} {args : Array Value} {below : List Frame} {meth : Method} {c : Code} {H : Heap} {locs : List Loc} {cells slots : Nat} {Q : State → Prop}
variable {cc : ByteArray} {pc nL : Nat} {ls : Array Slot} {rest : List Value}
variable {D : va_G} {dA dL : ClassId} {ad : Nat → Nat} {A : Nat → Prop} {H0 : Heap} {cn qq : Nat} {mq fq sn : Nat → Nat}
set_option maxHeartbeats 4000000 in
set_option maxRecDepth 100000 in
theorem lM_lik (hC : pp_CX p m c cX1_likelihood 5 s args RX1 D dA dL) (hw : pp_IM D dA dL ad A H0 cn qq mq fq sn H locs) (hR : pp_RM R cells slots 4 96) (hok : pp_ok cn qq mq fq sn) (h3 : 3 ^ cn ≤ 2187) : ∀ (n : Nat) (k : Nat) (ls : Array Slot), 3 ^ cn - k = n → k ≤ 3 ^ cn → lv_has ls 5 [(0, .ref (ad 0)), (3, .int (nI (3 ^ cn))), (1, .long (pp_msum (pp_m1 cn qq mq fq sn) k)), (4, .int (nI k))] → (∀ (ls : Array Slot), lv_has ls 5 [(0, .ref (ad 0)), (3, .int (nI (3 ^ cn))), (1, .long (pp_msum (pp_m1 cn qq mq fq sn) (3 ^ cn))), (4, .int (nI (3 ^ cn)))] → W p l e R s m args below meth c H locs cells slots Q (F0 m 35 ls [])) → W p l e R s m args below meth c H locs cells slots Q (F0 m 14 ls []) := by
  have hx := hC.1.1
  have hb := hC.1.2.1
  intro n
  induction n using Nat.strongRecOn with
  | ind n ih =>
    intro k ls hn g1 hl kk1
    refine lv_iload hx hb dX1_likelihood_14 (lv_at hl 3 rfl) ?_
    refine lv_iload_n hx hb dX1_likelihood_16 rfl (lv_at hl 1 rfl) ?_
    refine nr_ge (tgt := 35) hx hb dX1_likelihood_17 (by decide) (by omega) (by omega) (fun h1 => ?_) (fun h1 => ?_)
    · obtain rfl : k = 3 ^ cn := by omega
      exact kk1 ls hl
    · refine lv_lload_n hx hb dX1_likelihood_20 rfl (lv_at hl 2 rfl) ?_
      refine lv_aload_n hx hb dX1_likelihood_21 rfl (lv_at hl 0 rfl) ?_
      refine lv_iload hx hb dX1_likelihood_22 (lv_at hl 3 rfl) ?_
      refine mc_weight  hC hw (by omega) hok (hR.le (by decide) (by decide)) hl.1 (Nat.le_of_ble_eq_true rfl) dX1_likelihood_24 ?_
      refine lv_ladd hx hb dX1_likelihood_27 ?_
      refine nr_topl (y := (pp_msum (pp_m1 cn qq mq fq sn) (k + 1))) (by rw [pp_msum]; rfl) ?_
      refine lv_lstore_n (lv' := [(1, .long (pp_msum (pp_m1 cn qq mq fq sn) (k + 1))), (0, .ref (ad 0)), (3, .int (nI (3 ^ cn))), (4, .int (nI k))]) hx hb dX1_likelihood_28 rfl hl (by decide) rfl (fun ls hl => ?_)
      refine lv_iinc (v := (nI (k + 1))) (lv' := [(4, .int (nI (k + 1))), (1, .long (pp_msum (pp_m1 cn qq mq fq sn) (k + 1))), (0, .ref (ad 0)), (3, .int (nI (3 ^ cn)))]) hx hb dX1_likelihood_29 hl (k := 3) rfl (pn_inc _) (by decide) rfl (fun ls hl => ?_)
      refine lv_goto (tgt := 14) hx hb dX1_likelihood_32 (by decide) ?_
      exact ih (3 ^ cn - (k + 1)) (by omega) (k + 1) ls rfl (by omega) (lv_sub hl [2, 3, 1, 0] rfl) kk1
end PL_likM
set_option maxHeartbeats 4000000 in
set_option maxRecDepth 100000 in
theorem mM_likelihood (l : Launch) (D : va_G) (dA dL : ClassId) (ad : Nat → Nat) (cn qq : Nat) (mq fq sn : Nat → Nat) (hok : pp_ok cn qq mq fq sn) : Met l yX1_likelihood (ws_ yX1_likelihood cX1_likelihood 5 (some .long)) ({ frames := 4, cells := 0, slots := 0, locals := 96 } : Room) (pp_Pc D dA dL (pp_WM dA dL ad cn qq mq fq sn) [.ref (ad 0)]) (vp_Sl (fun z0 => z0 = (pp_msum (pp_m1 cn qq mq fq sn) (3 ^ cn)))) 0 0 (fun _ => False) := by
  refine pp_ofM (by decide) rfl (Nat.le_of_ble_eq_true rfl) ?_
  intro p e s m below meth c ls hC hr hlocks hw hl
  have hx := hC.1.1
  have hb := hC.1.2.1
  have hl : lv_has ls 5 [(0, .ref (ad 0))] := hl
  have hR : pp_RM ({ frames := 4, cells := 0, slots := 0, locals := 96 } : Room) 0 0 4 96 := ⟨Nat.le_of_ble_eq_true rfl, Nat.le_of_ble_eq_true rfl, Nat.le_of_ble_eq_true rfl, Nat.le_of_ble_eq_true rfl⟩
  have h3 := pp_3lt hok.1
  refine lv_lconst (v := 0) hx hb dX1_likelihood_0 (by decide) ?_
  refine lv_lstore_n (lv' := [(1, .long 0), (0, .ref (ad 0))]) hx hb dX1_likelihood_1 rfl hl (by decide) rfl (fun ls hl => ?_)
  refine lv_aload_n hx hb dX1_likelihood_2 rfl (lv_at hl 1 rfl) ?_
  refine lv_aload_n hx hb dX1_likelihood_3 rfl (lv_at hl 1 rfl) ?_
  refine mg_cn hC hw dX1_likelihood_4 ?_
  refine mc_power  hC hw hok.1 (hR.le (by decide) (by decide)) hl.1 (Nat.le_of_ble_eq_true rfl) dX1_likelihood_7 ?_
  refine lv_istore_n (lv' := [(3, .int (nI (3 ^ cn))), (1, .long 0), (0, .ref (ad 0))]) hx hb dX1_likelihood_10 rfl hl (by decide) rfl (fun ls hl => ?_)
  refine lv_iconst (v := (nI 0)) hx hb dX1_likelihood_11 (by decide) ?_
  refine lv_istore (lv' := [(4, .int (nI 0)), (3, .int (nI (3 ^ cn))), (1, .long 0), (0, .ref (ad 0))]) hx hb dX1_likelihood_12 hl (by decide) rfl (fun ls hl => ?_)
  refine lM_lik hC hw hR hok h3 (3 ^ cn) 0 ls rfl (Nat.zero_le _) (lv_sub hl [3, 1, 2, 0] rfl) (fun ls hl => ?_)
  refine lv_lload_n hx hb dX1_likelihood_35 rfl (lv_at hl 2 rfl) ?_
  exact pp_rS_l hx hb hr hlocks dX1_likelihood_36 rfl
section PC_M_likelihood
variable {p : Program} {l : Launch} {e : Env} {R : Room} {s : State} {m : MethodId} {args : Array Value} {below : List Frame} {meth : Method} {c : Code} {H : Heap} {locs : List Loc} {cells slots : Nat} {Q : State → Prop}
variable {cc : ByteArray} {pc nL : Nat} {ls : Array Slot} {rest : List Value}
variable {D : va_G} {dA dL : ClassId} {ad : Nat → Nat} {A : Nat → Prop} {H0 : Heap} {cn qq : Nat} {mq fq sn : Nat → Nat}
set_option maxRecDepth 100000 in
theorem mcL_likelihood (hC : pp_CX p m c cc nL s args R_law D dA dL) (hw : pp_IM D dA dL ad A H0 cn qq mq fq sn H locs) (hok : pp_ok cn qq mq fq sn) (hR : pp_RM R cells slots 5 120) (hsz : ls.size = nL) (hrest : (rest.map fun v => v.category).sum ≤ 8) (hdg : decode cc pc = .ok (.invokevirtual 49, 3)) (kk : W p l e R s m args below meth c H locs cells slots Q (F0 m (pc + 3) ls (.long (pp_msum (pp_m1 cn qq mq fq sn) (3 ^ cn)) :: rest))) : W p l e R s m args below meth c H locs cells slots Q (F0 m pc ls (.ref (ad 0) :: rest)) := pp_cS_l (n := 0) hC hw.1 hw.2.1 (mM_likelihood l D dA dL ad cn qq mq fq sn hok) (lw_V q270 q271 q272 q31 q273) (by decide +kernel) rfl rfl rfl hR (va_recv hC.2 hw.1 (ci := 1) (q0 := 0) rfl rfl) hsz hrest hdg rfl (fun r h => by rw [h]; exact kk)
end PC_M_likelihood
section PL_twoM
variable {p : Program} {l : Launch} {e : Env} {R : Room} {s : State} {m : MethodId} {args : Array Value} {below : List Frame} {meth : Method} {c : Code} {H : Heap} {locs : List Loc} {cells slots : Nat} {Q : State → Prop}
variable {cc : ByteArray} {pc nL : Nat} {ls : Array Slot} {rest : List Value}
variable {D : va_G} {dA dL : ClassId} {ad : Nat → Nat} {A : Nat → Prop} {H0 : Heap} {cn qq : Nat} {mq fq sn : Nat → Nat}
set_option maxHeartbeats 4000000 in
set_option maxRecDepth 100000 in
theorem lM_two (hC : pp_CX p m c cX1_shareOfTwo 9 s args RX1 D dA dL) (hw : pp_IM D dA dL ad A H0 cn qq mq fq sn H locs) (hR : pp_RM R cells slots 4 96) (hok : pp_ok cn qq mq fq sn) (hcn : cn ≤ 7) (h3 : 3 ^ cn ≤ 2187) {x y z v : Int32} (ex : x = nI (pp_j x) ∧ pp_j x < cn) (ey : y = nI (pp_j y) ∧ pp_j y < 3) (ez : z = nI (pp_j z) ∧ pp_j z < cn) (ev : v = nI (pp_j v) ∧ pp_j v < 3) : ∀ (n : Nat) (k : Nat) (ls : Array Slot), 3 ^ cn - k = n → k ≤ 3 ^ cn → lv_has ls 9 [(0, .ref (ad 0)), (1, .int x), (2, .int y), (3, .int z), (4, .int v), (7, .int (nI (3 ^ cn))), (5, .long (pp_msum (pp_m2 cn qq mq fq sn (pp_j x) (pp_j y) (pp_j z) (pp_j v)) k)), (8, .int (nI k))] → (∀ (ls : Array Slot), lv_has ls 9 [(0, .ref (ad 0)), (1, .int x), (2, .int y), (3, .int z), (4, .int v), (7, .int (nI (3 ^ cn))), (5, .long (pp_msum (pp_m2 cn qq mq fq sn (pp_j x) (pp_j y) (pp_j z) (pp_j v)) (3 ^ cn))), (8, .int (nI (3 ^ cn)))] → W p l e R s m args below meth c H locs cells slots Q (F0 m 98 ls [])) → W p l e R s m args below meth c H locs cells slots Q (F0 m 51 ls []) := by
  have hx := hC.1.1
  have hb := hC.1.2.1
  intro n
  induction n using Nat.strongRecOn with
  | ind n ih =>
    intro k ls hn g1 hl kk1
    refine lv_iload hx hb dX1_shareOfTwo_51 (lv_at hl 7 rfl) ?_
    refine lv_iload hx hb dX1_shareOfTwo_53 (lv_at hl 5 rfl) ?_
    refine nr_ge (tgt := 98) hx hb dX1_shareOfTwo_55 (by decide) (by omega) (by omega) (fun h1 => ?_) (fun h1 => ?_)
    · obtain rfl : k = 3 ^ cn := by omega
      exact kk1 ls hl
    · refine lv_aload_n hx hb dX1_shareOfTwo_58 rfl (lv_at hl 0 rfl) ?_
      refine lv_iload hx hb dX1_shareOfTwo_59 (lv_at hl 7 rfl) ?_
      refine lv_iload_n hx hb dX1_shareOfTwo_61 rfl (lv_at hl 1 rfl) ?_
      refine nr_top (y := (nI (pp_j x))) ex.1 ?_
      refine mc_genotype  hC hw (by omega) (by omega) (hR.le (by decide) (by decide)) hl.1 (Nat.le_of_ble_eq_true rfl) dX1_shareOfTwo_62 ?_
      refine lv_iload_n hx hb dX1_shareOfTwo_65 rfl (lv_at hl 2 rfl) ?_
      refine nr_top (y := (nI (pp_j y))) ey.1 ?_
      refine nr_ne (tgt := 92) hx hb dX1_shareOfTwo_66 (by decide) (by have := pp_dig_G k (pp_j x); omega) (by omega) (fun h2 => ?_) (fun h2 => ?_)
      · rw [show pp_msum (pp_m2 cn qq mq fq sn (pp_j x) (pp_j y) (pp_j z) (pp_j v)) k = pp_msum (pp_m2 cn qq mq fq sn (pp_j x) (pp_j y) (pp_j z) (pp_j v)) (k + 1) from by rw [pp_msum, pp_m2, if_neg (by rintro ⟨a, b⟩; first | exact h2 a), Int64.add_zero]] at hl
        refine lv_iinc (v := (nI (k + 1))) (lv' := [(8, .int (nI (k + 1))), (0, .ref (ad 0)), (1, .int x), (2, .int y), (3, .int z), (4, .int v), (7, .int (nI (3 ^ cn))), (5, .long (pp_msum (pp_m2 cn qq mq fq sn (pp_j x) (pp_j y) (pp_j z) (pp_j v)) (k + 1)))]) hx hb dX1_shareOfTwo_92 hl (k := 7) rfl (pn_inc _) (by decide) rfl (fun ls hl => ?_)
        refine lv_goto (tgt := 51) hx hb dX1_shareOfTwo_95 (by decide) ?_
        exact ih (3 ^ cn - (k + 1)) (by omega) (k + 1) ls rfl (by omega) (lv_sub hl [1, 2, 3, 4, 5, 6, 7, 0] rfl) kk1
      · refine lv_aload_n hx hb dX1_shareOfTwo_69 rfl (lv_at hl 0 rfl) ?_
        refine lv_iload hx hb dX1_shareOfTwo_70 (lv_at hl 7 rfl) ?_
        refine lv_iload_n hx hb dX1_shareOfTwo_72 rfl (lv_at hl 3 rfl) ?_
        refine nr_top (y := (nI (pp_j z))) ez.1 ?_
        refine mc_genotype  hC hw (by omega) (by omega) (hR.le (by decide) (by decide)) hl.1 (Nat.le_of_ble_eq_true rfl) dX1_shareOfTwo_73 ?_
        refine lv_iload hx hb dX1_shareOfTwo_76 (lv_at hl 4 rfl) ?_
        refine nr_top (y := (nI (pp_j v))) ev.1 ?_
        refine nr_ne (tgt := 92) hx hb dX1_shareOfTwo_78 (by decide) (by have := pp_dig_G k (pp_j z); omega) (by omega) (fun h4 => ?_) (fun h4 => ?_)
        · rw [show pp_msum (pp_m2 cn qq mq fq sn (pp_j x) (pp_j y) (pp_j z) (pp_j v)) k = pp_msum (pp_m2 cn qq mq fq sn (pp_j x) (pp_j y) (pp_j z) (pp_j v)) (k + 1) from by rw [pp_msum, pp_m2, if_neg (by rintro ⟨a, b⟩; first | exact h4 b), Int64.add_zero]] at hl
          refine lv_iinc (v := (nI (k + 1))) (lv' := [(8, .int (nI (k + 1))), (0, .ref (ad 0)), (1, .int x), (2, .int y), (3, .int z), (4, .int v), (7, .int (nI (3 ^ cn))), (5, .long (pp_msum (pp_m2 cn qq mq fq sn (pp_j x) (pp_j y) (pp_j z) (pp_j v)) (k + 1)))]) hx hb dX1_shareOfTwo_92 hl (k := 7) rfl (pn_inc _) (by decide) rfl (fun ls hl => ?_)
          refine lv_goto (tgt := 51) hx hb dX1_shareOfTwo_95 (by decide) ?_
          exact ih (3 ^ cn - (k + 1)) (by omega) (k + 1) ls rfl (by omega) (lv_sub hl [1, 2, 3, 4, 5, 6, 7, 0] rfl) kk1
        · refine lv_lload hx hb dX1_shareOfTwo_81 (lv_at hl 6 rfl) ?_
          refine lv_aload_n hx hb dX1_shareOfTwo_83 rfl (lv_at hl 0 rfl) ?_
          refine lv_iload hx hb dX1_shareOfTwo_84 (lv_at hl 7 rfl) ?_
          refine mc_weight  hC hw (by omega) hok (hR.le (by decide) (by decide)) hl.1 (Nat.le_of_ble_eq_true rfl) dX1_shareOfTwo_86 ?_
          refine lv_ladd hx hb dX1_shareOfTwo_89 ?_
          refine nr_topl (y := (pp_msum (pp_m2 cn qq mq fq sn (pp_j x) (pp_j y) (pp_j z) (pp_j v)) (k + 1))) (by rw [pp_msum, pp_m2, if_pos ⟨h2, h4⟩]) ?_
          refine lv_lstore (lv' := [(5, .long (pp_msum (pp_m2 cn qq mq fq sn (pp_j x) (pp_j y) (pp_j z) (pp_j v)) (k + 1))), (0, .ref (ad 0)), (1, .int x), (2, .int y), (3, .int z), (4, .int v), (7, .int (nI (3 ^ cn))), (8, .int (nI k))]) hx hb dX1_shareOfTwo_90 hl (by decide) rfl (fun ls hl => ?_)
          refine lv_iinc (v := (nI (k + 1))) (lv' := [(8, .int (nI (k + 1))), (5, .long (pp_msum (pp_m2 cn qq mq fq sn (pp_j x) (pp_j y) (pp_j z) (pp_j v)) (k + 1))), (0, .ref (ad 0)), (1, .int x), (2, .int y), (3, .int z), (4, .int v), (7, .int (nI (3 ^ cn)))]) hx hb dX1_shareOfTwo_92 hl (k := 7) rfl (pn_inc _) (by decide) rfl (fun ls hl => ?_)
          refine lv_goto (tgt := 51) hx hb dX1_shareOfTwo_95 (by decide) ?_
          exact ih (3 ^ cn - (k + 1)) (by omega) (k + 1) ls rfl (by omega) (lv_sub hl [2, 3, 4, 5, 6, 7, 1, 0] rfl) kk1
end PL_twoM
set_option maxHeartbeats 4000000 in
set_option maxRecDepth 100000 in
theorem mM_shareOfTwo (l : Launch) (D : va_G) (dA dL : ClassId) (ad : Nat → Nat) (cn qq : Nat) (mq fq sn : Nat → Nat) (x : Int32) (y : Int32) (z : Int32) (v : Int32) (hok : pp_ok cn qq mq fq sn) : Met l yX1_shareOfTwo (ws_ yX1_shareOfTwo cX1_shareOfTwo 9 (some .long)) ({ frames := 4, cells := 0, slots := 0, locals := 96 } : Room) (pp_Pc D dA dL (pp_WM dA dL ad cn qq mq fq sn) [.ref (ad 0), .int x, .int y, .int z, .int v]) (vp_Sl (fun z0 => z0 = (pp_mtwo cn qq mq fq sn x y z v))) 0 0 (fun _ => False) := by
  refine pp_ofM (by decide) rfl (Nat.le_of_ble_eq_true rfl) ?_
  intro p e s m below meth c ls hC hr hlocks hw hl
  have hx := hC.1.1
  have hb := hC.1.2.1
  have hl : lv_has ls 9 [(0, .ref (ad 0)), (1, .int x), (2, .int y), (3, .int z), (4, .int v)] := hl
  have hR : pp_RM ({ frames := 4, cells := 0, slots := 0, locals := 96 } : Room) 0 0 4 96 := ⟨Nat.le_of_ble_eq_true rfl, Nat.le_of_ble_eq_true rfl, Nat.le_of_ble_eq_true rfl, Nat.le_of_ble_eq_true rfl⟩
  have h3 := pp_3lt hok.1
  have hcn := hok.1
  refine lv_aload_n hx hb dX1_shareOfTwo_0 rfl (lv_at hl 0 rfl) ?_
  refine lv_iload_n hx hb dX1_shareOfTwo_1 rfl (lv_at hl 1 rfl) ?_
  refine mc_isPerson  hC hw  (hR.le (by decide) (by decide)) hl.1 (Nat.le_of_ble_eq_true rfl) dX1_shareOfTwo_2 ?_
  refine nr_z_eq (tgt := 33) hx hb dX1_shareOfTwo_5 (by decide) (by omega) (fun k1 => ?_) (fun k1 => ?_)
  · refine lv_lconst (v := 0) hx hb dX1_shareOfTwo_33 (by decide) ?_
    exact pp_rS_l hx hb hr hlocks dX1_shareOfTwo_34 (by unfold pp_mtwo; rw [if_neg]; rintro ⟨a, b, c, d⟩; omega)
  · have k1 : pp_bad cn x = 0 := by have := pp_bad_lt cn x; omega
    refine lv_aload_n hx hb dX1_shareOfTwo_8 rfl (lv_at hl 0 rfl) ?_
    refine lv_iload_n hx hb dX1_shareOfTwo_9 rfl (lv_at hl 3 rfl) ?_
    refine mc_isPerson  hC hw  (hR.le (by decide) (by decide)) hl.1 (Nat.le_of_ble_eq_true rfl) dX1_shareOfTwo_10 ?_
    refine nr_z_eq (tgt := 33) hx hb dX1_shareOfTwo_13 (by decide) (by omega) (fun k2 => ?_) (fun k2 => ?_)
    · refine lv_lconst (v := 0) hx hb dX1_shareOfTwo_33 (by decide) ?_
      exact pp_rS_l hx hb hr hlocks dX1_shareOfTwo_34 (by unfold pp_mtwo; rw [if_neg]; rintro ⟨a, b, c, d⟩; omega)
    · have k2 : pp_bad cn z = 0 := by have := pp_bad_lt cn z; omega
      refine lv_aload_n hx hb dX1_shareOfTwo_16 rfl (lv_at hl 0 rfl) ?_
      refine lv_iload_n hx hb dX1_shareOfTwo_17 rfl (lv_at hl 2 rfl) ?_
      refine mc_isGenotype  hC hw  (hR.le (by decide) (by decide)) hl.1 (Nat.le_of_ble_eq_true rfl) dX1_shareOfTwo_18 ?_
      refine nr_z_eq (tgt := 33) hx hb dX1_shareOfTwo_21 (by decide) (by omega) (fun k3 => ?_) (fun k3 => ?_)
      · refine lv_lconst (v := 0) hx hb dX1_shareOfTwo_33 (by decide) ?_
        exact pp_rS_l hx hb hr hlocks dX1_shareOfTwo_34 (by unfold pp_mtwo; rw [if_neg]; rintro ⟨a, b, c, d⟩; omega)
      · have k3 : pp_bdg y = 0 := by have := pp_bdg_lt y; omega
        refine lv_aload_n hx hb dX1_shareOfTwo_24 rfl (lv_at hl 0 rfl) ?_
        refine lv_iload hx hb dX1_shareOfTwo_25 (lv_at hl 4 rfl) ?_
        refine mc_isGenotype  hC hw  (hR.le (by decide) (by decide)) hl.1 (Nat.le_of_ble_eq_true rfl) dX1_shareOfTwo_27 ?_
        refine nr_z_ne (tgt := 35) hx hb dX1_shareOfTwo_30 (by decide) (by omega) (fun k4 => ?_) (fun k4 => ?_)
        · have k4 : pp_bdg v = 0 := by have := pp_bdg_lt v; omega
          refine lv_lconst (v := 0) hx hb dX1_shareOfTwo_35 (by decide) ?_
          refine lv_lstore (lv' := [(5, .long 0), (0, .ref (ad 0)), (1, .int x), (2, .int y), (3, .int z), (4, .int v)]) hx hb dX1_shareOfTwo_36 hl (by decide) rfl (fun ls hl => ?_)
          refine lv_aload_n hx hb dX1_shareOfTwo_38 rfl (lv_at hl 1 rfl) ?_
          refine lv_aload_n hx hb dX1_shareOfTwo_39 rfl (lv_at hl 1 rfl) ?_
          refine mg_cn hC hw dX1_shareOfTwo_40 ?_
          refine mc_power  hC hw hok.1 (hR.le (by decide) (by decide)) hl.1 (Nat.le_of_ble_eq_true rfl) dX1_shareOfTwo_43 ?_
          refine lv_istore (lv' := [(7, .int (nI (3 ^ cn))), (5, .long 0), (0, .ref (ad 0)), (1, .int x), (2, .int y), (3, .int z), (4, .int v)]) hx hb dX1_shareOfTwo_46 hl (by decide) rfl (fun ls hl => ?_)
          refine lv_iconst (v := (nI 0)) hx hb dX1_shareOfTwo_48 (by decide) ?_
          refine lv_istore (lv' := [(8, .int (nI 0)), (7, .int (nI (3 ^ cn))), (5, .long 0), (0, .ref (ad 0)), (1, .int x), (2, .int y), (3, .int z), (4, .int v)]) hx hb dX1_shareOfTwo_49 hl (by decide) rfl (fun ls hl => ?_)
          refine lM_two hC hw hR hok hcn h3 (pp_bad_0 k1 hcn) (pp_bdg_0 k3) (pp_bad_0 k2 hcn) (pp_bdg_0 k4) (3 ^ cn) 0 ls rfl (Nat.zero_le _) (lv_sub hl [3, 4, 5, 6, 7, 1, 2, 0] rfl) (fun ls hl => ?_)
          refine lv_lload hx hb dX1_shareOfTwo_98 (lv_at hl 6 rfl) ?_
          exact pp_rS_l hx hb hr hlocks dX1_shareOfTwo_100 (by rw [pp_mtwo, if_pos ⟨k1, k2, k3, k4⟩])
        · refine lv_lconst (v := 0) hx hb dX1_shareOfTwo_33 (by decide) ?_
          exact pp_rS_l hx hb hr hlocks dX1_shareOfTwo_34 (by unfold pp_mtwo; rw [if_neg]; rintro ⟨a, b, c, d⟩; omega)
section PC_M_shareOfTwo
variable {p : Program} {l : Launch} {e : Env} {R : Room} {s : State} {m : MethodId} {args : Array Value} {below : List Frame} {meth : Method} {c : Code} {H : Heap} {locs : List Loc} {cells slots : Nat} {Q : State → Prop}
variable {cc : ByteArray} {pc nL : Nat} {ls : Array Slot} {rest : List Value}
variable {D : va_G} {dA dL : ClassId} {ad : Nat → Nat} {A : Nat → Prop} {H0 : Heap} {cn qq : Nat} {mq fq sn : Nat → Nat}
set_option maxRecDepth 100000 in
theorem mcL_shareOfTwo (hC : pp_CX p m c cc nL s args R_law D dA dL) (hw : pp_IM D dA dL ad A H0 cn qq mq fq sn H locs) {x : Int32} {y : Int32} {z : Int32} {v : Int32} (hok : pp_ok cn qq mq fq sn) (hR : pp_RM R cells slots 5 124) (hsz : ls.size = nL) (hrest : (rest.map fun v => v.category).sum ≤ 8) (hdg : decode cc pc = .ok (.invokevirtual 59, 3)) (kk : W p l e R s m args below meth c H locs cells slots Q (F0 m (pc + 3) ls (.long (pp_mtwo cn qq mq fq sn x y z v) :: rest))) : W p l e R s m args below meth c H locs cells slots Q (F0 m pc ls (.int v :: .int z :: .int y :: .int x :: .ref (ad 0) :: rest)) := pp_cS_l (n := 4) hC hw.1 hw.2.1 (mM_shareOfTwo l D dA dL ad cn qq mq fq sn x y z v hok) (lw_V q306 q303 q304 q31 q305) (by decide +kernel) rfl rfl rfl hR (va_recv hC.2 hw.1 (ci := 1) (q0 := 0) rfl rfl) hsz hrest hdg rfl (fun r h => by rw [h]; exact kk)
set_option maxRecDepth 100000 in
theorem mc_shareOfTwo (hC : pp_CX p m c cc nL s args RX1 D dA dL) (hw : pp_IM D dA dL ad A H0 cn qq mq fq sn H locs) {x : Int32} {y : Int32} {z : Int32} {v : Int32} (hok : pp_ok cn qq mq fq sn) (hR : pp_RM R cells slots 5 124) (hsz : ls.size = nL) (hrest : (rest.map fun v => v.category).sum ≤ 8) (hdg : decode cc pc = .ok (.invokevirtual 58, 3)) (kk : W p l e R s m args below meth c H locs cells slots Q (F0 m (pc + 3) ls (.long (pp_mtwo cn qq mq fq sn x y z v) :: rest))) : W p l e R s m args below meth c H locs cells slots Q (F0 m pc ls (.int v :: .int z :: .int y :: .int x :: .ref (ad 0) :: rest)) := pp_cS_l (n := 4) hC hw.1 hw.2.1 (mM_shareOfTwo l D dA dL ad cn qq mq fq sn x y z v hok) (lw_V q302 q303 q304 q31 q305) (by decide +kernel) rfl rfl rfl hR (va_recv hC.2 hw.1 (ci := 1) (q0 := 0) rfl rfl) hsz hrest hdg rfl (fun r h => by rw [h]; exact kk)
end PC_M_shareOfTwo
set_option maxHeartbeats 4000000 in
set_option maxRecDepth 100000 in
theorem mM_share (l : Launch) (D : va_G) (dA dL : ClassId) (ad : Nat → Nat) (cn qq : Nat) (mq fq sn : Nat → Nat) (x : Int32) (y : Int32) (hok : pp_ok cn qq mq fq sn) : Met l yX1_share (ws_ yX1_share cX1_share 3 (some .long)) ({ frames := 5, cells := 0, slots := 0, locals := 124 } : Room) (pp_Pc D dA dL (pp_WM dA dL ad cn qq mq fq sn) [.ref (ad 0), .int x, .int y]) (vp_Sl (fun z0 => z0 = (pp_mtwo cn qq mq fq sn x y x y))) 0 0 (fun _ => False) := by
  refine pp_ofM (by decide) rfl (Nat.le_of_ble_eq_true rfl) ?_
  intro p e s m below meth c ls hC hr hlocks hw hl
  have hx := hC.1.1
  have hb := hC.1.2.1
  have hl : lv_has ls 3 [(0, .ref (ad 0)), (1, .int x), (2, .int y)] := hl
  have hR : pp_RM ({ frames := 5, cells := 0, slots := 0, locals := 124 } : Room) 0 0 5 124 := ⟨Nat.le_of_ble_eq_true rfl, Nat.le_of_ble_eq_true rfl, Nat.le_of_ble_eq_true rfl, Nat.le_of_ble_eq_true rfl⟩
  refine lv_aload_n hx hb dX1_share_0 rfl (lv_at hl 0 rfl) ?_
  refine lv_iload_n hx hb dX1_share_1 rfl (lv_at hl 1 rfl) ?_
  refine lv_iload_n hx hb dX1_share_2 rfl (lv_at hl 2 rfl) ?_
  refine lv_iload_n hx hb dX1_share_3 rfl (lv_at hl 1 rfl) ?_
  refine lv_iload_n hx hb dX1_share_4 rfl (lv_at hl 2 rfl) ?_
  refine mc_shareOfTwo  hC hw hok (hR.le (by decide) (by decide)) hl.1 (Nat.le_of_ble_eq_true rfl) dX1_share_5 ?_
  exact pp_rS_l hx hb hr hlocks dX1_share_8 rfl
section PC_M_share
variable {p : Program} {l : Launch} {e : Env} {R : Room} {s : State} {m : MethodId} {args : Array Value} {below : List Frame} {meth : Method} {c : Code} {H : Heap} {locs : List Loc} {cells slots : Nat} {Q : State → Prop}
variable {cc : ByteArray} {pc nL : Nat} {ls : Array Slot} {rest : List Value}
variable {D : va_G} {dA dL : ClassId} {ad : Nat → Nat} {A : Nat → Prop} {H0 : Heap} {cn qq : Nat} {mq fq sn : Nat → Nat}
set_option maxRecDepth 100000 in
theorem mcL_share (hC : pp_CX p m c cc nL s args R_law D dA dL) (hw : pp_IM D dA dL ad A H0 cn qq mq fq sn H locs) {x : Int32} {y : Int32} (hok : pp_ok cn qq mq fq sn) (hR : pp_RM R cells slots 6 146) (hsz : ls.size = nL) (hrest : (rest.map fun v => v.category).sum ≤ 8) (hdg : decode cc pc = .ok (.invokevirtual 54, 3)) (kk : W p l e R s m args below meth c H locs cells slots Q (F0 m (pc + 3) ls (.long (pp_mtwo cn qq mq fq sn x y x y) :: rest))) : W p l e R s m args below meth c H locs cells slots Q (F0 m pc ls (.int y :: .int x :: .ref (ad 0) :: rest)) := pp_cS_l (n := 2) hC hw.1 hw.2.1 (mM_share l D dA dL ad cn qq mq fq sn x y hok) (lw_V q298 q299 q300 q31 q301) (by decide +kernel) rfl rfl rfl hR (va_recv hC.2 hw.1 (ci := 1) (q0 := 0) rfl rfl) hsz hrest hdg rfl (fun r h => by rw [h]; exact kk)
end PC_M_share
section PL_copM
variable {p : Program} {l : Launch} {e : Env} {R : Room} {s : State} {m : MethodId} {args : Array Value} {below : List Frame} {meth : Method} {c : Code} {H : Heap} {locs : List Loc} {cells slots : Nat} {Q : State → Prop}
variable {cc : ByteArray} {pc nL : Nat} {ls : Array Slot} {rest : List Value}
variable {D : va_G} {dA dL : ClassId} {ad : Nat → Nat} {A : Nat → Prop} {H0 : Heap} {cn qq : Nat} {mq fq sn : Nat → Nat}
set_option maxHeartbeats 4000000 in
set_option maxRecDepth 100000 in
theorem lM_cop (hC : pp_CX p m c cX1_copies 6 s args RX1 D dA dL) (hw : pp_IM D dA dL ad A H0 cn qq mq fq sn H locs) (hR : pp_RM R cells slots 4 96) (hok : pp_ok cn qq mq fq sn) (hcn : cn ≤ 7) (h3 : 3 ^ cn ≤ 2187) {x : Int32} (ex : x = nI (pp_j x) ∧ pp_j x < cn) : ∀ (n : Nat) (k : Nat) (ls : Array Slot), 3 ^ cn - k = n → k ≤ 3 ^ cn → lv_has ls 6 [(0, .ref (ad 0)), (1, .int x), (4, .int (nI (3 ^ cn))), (2, .long (pp_msum (pp_m3 cn qq mq fq sn (pp_j x)) k)), (5, .int (nI k))] → (∀ (ls : Array Slot), lv_has ls 6 [(0, .ref (ad 0)), (1, .int x), (4, .int (nI (3 ^ cn))), (2, .long (pp_msum (pp_m3 cn qq mq fq sn (pp_j x)) (3 ^ cn))), (5, .int (nI (3 ^ cn)))] → W p l e R s m args below meth c H locs cells slots Q (F0 m 56 ls [])) → W p l e R s m args below meth c H locs cells slots Q (F0 m 25 ls []) := by
  have hx := hC.1.1
  have hb := hC.1.2.1
  intro n
  induction n using Nat.strongRecOn with
  | ind n ih =>
    intro k ls hn g1 hl kk1
    refine lv_iload hx hb dX1_copies_25 (lv_at hl 4 rfl) ?_
    refine lv_iload hx hb dX1_copies_27 (lv_at hl 2 rfl) ?_
    refine nr_ge (tgt := 56) hx hb dX1_copies_29 (by decide) (by omega) (by omega) (fun h1 => ?_) (fun h1 => ?_)
    · obtain rfl : k = 3 ^ cn := by omega
      exact kk1 ls hl
    · refine lv_lload_n hx hb dX1_copies_32 rfl (lv_at hl 3 rfl) ?_
      refine lv_aload_n hx hb dX1_copies_33 rfl (lv_at hl 0 rfl) ?_
      refine lv_iload hx hb dX1_copies_34 (lv_at hl 4 rfl) ?_
      refine mc_weight  hC hw (by omega) hok (hR.le (by decide) (by decide)) hl.1 (Nat.le_of_ble_eq_true rfl) dX1_copies_36 ?_
      refine lv_aload_n hx hb dX1_copies_39 rfl (lv_at hl 0 rfl) ?_
      refine lv_iload hx hb dX1_copies_40 (lv_at hl 4 rfl) ?_
      refine lv_iload_n hx hb dX1_copies_42 rfl (lv_at hl 1 rfl) ?_
      refine nr_top (y := (nI (pp_j x))) ex.1 ?_
      refine mc_genotype  hC hw (by omega) (by omega) (hR.le (by decide) (by decide)) hl.1 (Nat.le_of_ble_eq_true rfl) dX1_copies_43 ?_
      refine nr_i2l hx hb (by have := pp_dig_G k (pp_j x); omega) dX1_copies_46 ?_
      refine lv_lmul hx hb dX1_copies_47 ?_
      refine lv_ladd hx hb dX1_copies_48 ?_
      refine nr_topl (y := (pp_msum (pp_m3 cn qq mq fq sn (pp_j x)) (k + 1))) (by rw [pp_msum]; rfl) ?_
      refine lv_lstore_n (lv' := [(2, .long (pp_msum (pp_m3 cn qq mq fq sn (pp_j x)) (k + 1))), (0, .ref (ad 0)), (1, .int x), (4, .int (nI (3 ^ cn))), (5, .int (nI k))]) hx hb dX1_copies_49 rfl hl (by decide) rfl (fun ls hl => ?_)
      refine lv_iinc (v := (nI (k + 1))) (lv' := [(5, .int (nI (k + 1))), (2, .long (pp_msum (pp_m3 cn qq mq fq sn (pp_j x)) (k + 1))), (0, .ref (ad 0)), (1, .int x), (4, .int (nI (3 ^ cn)))]) hx hb dX1_copies_50 hl (k := 4) rfl (pn_inc _) (by decide) rfl (fun ls hl => ?_)
      refine lv_goto (tgt := 25) hx hb dX1_copies_53 (by decide) ?_
      exact ih (3 ^ cn - (k + 1)) (by omega) (k + 1) ls rfl (by omega) (lv_sub hl [2, 3, 4, 1, 0] rfl) kk1
end PL_copM
set_option maxHeartbeats 4000000 in
set_option maxRecDepth 100000 in
theorem mM_copies (l : Launch) (D : va_G) (dA dL : ClassId) (ad : Nat → Nat) (cn qq : Nat) (mq fq sn : Nat → Nat) (x : Int32) (hok : pp_ok cn qq mq fq sn) : Met l yX1_copies (ws_ yX1_copies cX1_copies 6 (some .long)) ({ frames := 4, cells := 0, slots := 0, locals := 96 } : Room) (pp_Pc D dA dL (pp_WM dA dL ad cn qq mq fq sn) [.ref (ad 0), .int x]) (vp_Sl (fun z0 => z0 = (pp_mcop cn qq mq fq sn x))) 0 0 (fun _ => False) := by
  refine pp_ofM (by decide) rfl (Nat.le_of_ble_eq_true rfl) ?_
  intro p e s m below meth c ls hC hr hlocks hw hl
  have hx := hC.1.1
  have hb := hC.1.2.1
  have hl : lv_has ls 6 [(0, .ref (ad 0)), (1, .int x)] := hl
  have hR : pp_RM ({ frames := 4, cells := 0, slots := 0, locals := 96 } : Room) 0 0 4 96 := ⟨Nat.le_of_ble_eq_true rfl, Nat.le_of_ble_eq_true rfl, Nat.le_of_ble_eq_true rfl, Nat.le_of_ble_eq_true rfl⟩
  have h3 := pp_3lt hok.1
  have hcn := hok.1
  refine lv_aload_n hx hb dX1_copies_0 rfl (lv_at hl 0 rfl) ?_
  refine lv_iload_n hx hb dX1_copies_1 rfl (lv_at hl 1 rfl) ?_
  refine mc_isPerson  hC hw  (hR.le (by decide) (by decide)) hl.1 (Nat.le_of_ble_eq_true rfl) dX1_copies_2 ?_
  refine nr_z_ne (tgt := 10) hx hb dX1_copies_5 (by decide) (by omega) (fun k1 => ?_) (fun k1 => ?_)
  · have k1 : pp_bad cn x = 0 := by have := pp_bad_lt cn x; omega
    refine lv_lconst (v := 0) hx hb dX1_copies_10 (by decide) ?_
    refine lv_lstore_n (lv' := [(2, .long 0), (0, .ref (ad 0)), (1, .int x)]) hx hb dX1_copies_11 rfl hl (by decide) rfl (fun ls hl => ?_)
    refine lv_aload_n hx hb dX1_copies_12 rfl (lv_at hl 1 rfl) ?_
    refine lv_aload_n hx hb dX1_copies_13 rfl (lv_at hl 1 rfl) ?_
    refine mg_cn hC hw dX1_copies_14 ?_
    refine mc_power  hC hw hok.1 (hR.le (by decide) (by decide)) hl.1 (Nat.le_of_ble_eq_true rfl) dX1_copies_17 ?_
    refine lv_istore (lv' := [(4, .int (nI (3 ^ cn))), (2, .long 0), (0, .ref (ad 0)), (1, .int x)]) hx hb dX1_copies_20 hl (by decide) rfl (fun ls hl => ?_)
    refine lv_iconst (v := (nI 0)) hx hb dX1_copies_22 (by decide) ?_
    refine lv_istore (lv' := [(5, .int (nI 0)), (4, .int (nI (3 ^ cn))), (2, .long 0), (0, .ref (ad 0)), (1, .int x)]) hx hb dX1_copies_23 hl (by decide) rfl (fun ls hl => ?_)
    refine lM_cop hC hw hR hok hcn h3 (pp_bad_0 k1 hcn) (3 ^ cn) 0 ls rfl (Nat.zero_le _) (lv_sub hl [3, 4, 1, 2, 0] rfl) (fun ls hl => ?_)
    refine lv_lload_n hx hb dX1_copies_56 rfl (lv_at hl 3 rfl) ?_
    exact pp_rS_l hx hb hr hlocks dX1_copies_57 (by rw [pp_mcop, if_pos k1])
  · refine lv_lconst (v := 0) hx hb dX1_copies_8 (by decide) ?_
    exact pp_rS_l hx hb hr hlocks dX1_copies_9 (by rw [pp_mcop, if_neg (by omega)])
section PC_M_copies
variable {p : Program} {l : Launch} {e : Env} {R : Room} {s : State} {m : MethodId} {args : Array Value} {below : List Frame} {meth : Method} {c : Code} {H : Heap} {locs : List Loc} {cells slots : Nat} {Q : State → Prop}
variable {cc : ByteArray} {pc nL : Nat} {ls : Array Slot} {rest : List Value}
variable {D : va_G} {dA dL : ClassId} {ad : Nat → Nat} {A : Nat → Prop} {H0 : Heap} {cn qq : Nat} {mq fq sn : Nat → Nat}
set_option maxRecDepth 100000 in
theorem mcL_copies (hC : pp_CX p m c cc nL s args R_law D dA dL) (hw : pp_IM D dA dL ad A H0 cn qq mq fq sn H locs) {x : Int32} (hok : pp_ok cn qq mq fq sn) (hR : pp_RM R cells slots 5 121) (hsz : ls.size = nL) (hrest : (rest.map fun v => v.category).sum ≤ 8) (hdg : decode cc pc = .ok (.invokevirtual 64, 3)) (kk : W p l e R s m args below meth c H locs cells slots Q (F0 m (pc + 3) ls (.long (pp_mcop cn qq mq fq sn x) :: rest))) : W p l e R s m args below meth c H locs cells slots Q (F0 m pc ls (.int x :: .ref (ad 0) :: rest)) := pp_cS_l (n := 1) hC hw.1 hw.2.1 (mM_copies l D dA dL ad cn qq mq fq sn x hok) (lw_V q307 q308 q309 q31 q310) (by decide +kernel) rfl rfl rfl hR (va_recv hC.2 hw.1 (ci := 1) (q0 := 0) rfl rfl) hsz hrest hdg rfl (fun r h => by rw [h]; exact kk)
end PC_M_copies
end
section
section PL_ispM
variable {p : Program} {l : Launch} {e : Env} {R : Room} {s : State} {m : MethodId} {args : Array Value} {below : List Frame} {meth : Method} {c : Code} {H : Heap} {locs : List Loc} {cells slots : Nat} {Q : State → Prop}
variable {cc : ByteArray} {pc nL : Nat} {ls : Array Slot} {rest : List Value}
variable {D : va_G} {dA dL : ClassId} {ad : Nat → Nat} {A : Nat → Prop} {H0 : Heap} {cn qq : Nat} {mq fq sn : Nat → Nat}
set_option maxHeartbeats 4000000 in
set_option maxRecDepth 100000 in
theorem lM_isp (hC : pp_CX p m c cX1_isPossible 3 s args RX1 D dA dL) (hw : pp_IM D dA dL ad A H0 cn qq mq fq sn H locs) (hR : pp_RM R cells slots 3 72) {a1 : Nat} (hA : a1 < 2 ^ 31) (hok : pp_ok cn qq mq fq sn) (hcn : cn ≤ 7) : ∀ (n : Nat) (i : Nat) (ls : Array Slot), cn - i = n → i ≤ cn → (∀ t, t < i → pp_fac qq mq fq sn t (pp_dig a1) ≠ 0) → lv_has ls 3 [(0, .ref (ad 0)), (1, .int (nI a1)), (2, .int (nI i))] → (∀ (_ : ∀ t, t < cn → pp_fac qq mq fq sn t (pp_dig a1) ≠ 0) (ls : Array Slot), lv_has ls 3 [(0, .ref (ad 0)), (1, .int (nI a1)), (2, .int (nI cn))] → W p l e R s m args below meth c H locs cells slots Q (F0 m 27 ls [])) → (∀ (i : Nat) (_ : i < cn) (_ : pp_fac qq mq fq sn i (pp_dig a1) = 0) (ls : Array Slot), lv_has ls 3 [(0, .ref (ad 0)), (1, .int (nI a1)), (2, .int (nI i))] → W p l e R s m args below meth c H locs cells slots Q (F0 m 19 ls [])) → W p l e R s m args below meth c H locs cells slots Q (F0 m 2 ls []) := by
  have hx := hC.1.1
  have hb := hC.1.2.1
  intro n
  induction n using Nat.strongRecOn with
  | ind n ih =>
    intro i ls hn g1 g2 hl kk1 kk2
    refine lv_iload_n hx hb dX1_isPossible_2 rfl (lv_at hl 2 rfl) ?_
    refine lv_aload_n hx hb dX1_isPossible_3 rfl (lv_at hl 0 rfl) ?_
    refine mg_cn hC hw dX1_isPossible_4 ?_
    refine nr_ge (tgt := 27) hx hb dX1_isPossible_7 (by decide) (by omega) (by omega) (fun h1 => ?_) (fun h1 => ?_)
    · obtain rfl : i = cn := by omega
      exact kk1 g2 ls hl
    · refine lv_aload_n hx hb dX1_isPossible_10 rfl (lv_at hl 0 rfl) ?_
      refine lv_iload_n hx hb dX1_isPossible_11 rfl (lv_at hl 1 rfl) ?_
      refine lv_iload_n hx hb dX1_isPossible_12 rfl (lv_at hl 2 rfl) ?_
      refine mc_factor  hC hw hA hok h1 (hR.le (by decide) (by decide)) hl.1 (Nat.le_of_ble_eq_true rfl) dX1_isPossible_13 ?_
      refine nr_z_ne (tgt := 21) hx hb dX1_isPossible_16 (by decide) (by have := pp_fac_le (mq := mq) (fq := fq) (r := i) hok.2.1 hok.2.2.1 (pp_dig_G a1); omega) (fun h2 => ?_) (fun h2 => ?_)
      · refine lv_iinc (v := (nI (i + 1))) (lv' := [(2, .int (nI (i + 1))), (0, .ref (ad 0)), (1, .int (nI a1))]) hx hb dX1_isPossible_21 hl (k := 2) rfl (pn_inc _) (by decide) rfl (fun ls hl => ?_)
        refine lv_goto (tgt := 2) hx hb dX1_isPossible_24 (by decide) ?_
        exact ih (cn - (i + 1)) (by omega) (i + 1) ls rfl (by omega) (lt_s g2 h2) (lv_sub hl [1, 2, 0] rfl) kk1 kk2
      · exact kk2 i h1 h2 ls hl
end PL_ispM
set_option maxHeartbeats 4000000 in
set_option maxRecDepth 100000 in
theorem mM_isPossible (l : Launch) (D : va_G) (dA dL : ClassId) (ad : Nat → Nat) (cn qq : Nat) (mq fq sn : Nat → Nat) (a1 : Nat) (hA : a1 < 2 ^ 31) (hok : pp_ok cn qq mq fq sn) : Met l yX1_isPossible (ws_ yX1_isPossible cX1_isPossible 3 (some .boolean)) ({ frames := 3, cells := 0, slots := 0, locals := 72 } : Room) (pp_Pc D dA dL (pp_WM dA dL ad cn qq mq fq sn) [.ref (ad 0), .int (nI a1)]) (vp_Si (fun z0 => z0 = (nI (pp_poss cn qq mq fq sn (pp_dig a1))))) 0 0 (fun _ => False) := by
  refine pp_ofM (by decide) rfl (Nat.le_of_ble_eq_true rfl) ?_
  intro p e s m below meth c ls hC hr hlocks hw hl
  have hx := hC.1.1
  have hb := hC.1.2.1
  have hl : lv_has ls 3 [(0, .ref (ad 0)), (1, .int (nI a1))] := hl
  have hR : pp_RM ({ frames := 3, cells := 0, slots := 0, locals := 72 } : Room) 0 0 3 72 := ⟨Nat.le_of_ble_eq_true rfl, Nat.le_of_ble_eq_true rfl, Nat.le_of_ble_eq_true rfl, Nat.le_of_ble_eq_true rfl⟩
  refine lv_iconst (v := (nI 0)) hx hb dX1_isPossible_0 (by decide) ?_
  refine lv_istore_n (lv' := [(2, .int (nI 0)), (0, .ref (ad 0)), (1, .int (nI a1))]) hx hb dX1_isPossible_1 rfl hl (by decide) rfl (fun ls hl => ?_)
  refine lM_isp hC hw hR hA hok hok.1 cn 0 ls rfl (Nat.zero_le cn) (fun t ht => absurd ht (by omega)) (lv_sub hl [1, 2, 0] rfl) (fun hall ls hl => ?_) (fun i hi hz ls hl => ?_)
  · refine lv_iconst (v := (nI 1)) hx hb dX1_isPossible_27 (by decide) ?_
    exact pp_rS_z hx hb hr hlocks dX1_isPossible_28 (by rw [pp_poss, if_pos hall]) (by decide)
  · refine lv_iconst (v := (nI 0)) hx hb dX1_isPossible_19 (by decide) ?_
    exact pp_rS_z hx hb hr hlocks dX1_isPossible_20 (by rw [pp_poss, if_neg (fun z => z i hi hz)]) (by decide)
section PC_M_isPossible
variable {p : Program} {l : Launch} {e : Env} {R : Room} {s : State} {m : MethodId} {args : Array Value} {below : List Frame} {meth : Method} {c : Code} {H : Heap} {locs : List Loc} {cells slots : Nat} {Q : State → Prop}
variable {cc : ByteArray} {pc nL : Nat} {ls : Array Slot} {rest : List Value}
variable {D : va_G} {dA dL : ClassId} {ad : Nat → Nat} {A : Nat → Prop} {H0 : Heap} {cn qq : Nat} {mq fq sn : Nat → Nat}
set_option maxRecDepth 100000 in
theorem mc_isPossible (hC : pp_CX p m c cc nL s args RX1 D dA dL) (hw : pp_IM D dA dL ad A H0 cn qq mq fq sn H locs) {a1 : Nat} (hA : a1 < 2 ^ 31) (hok : pp_ok cn qq mq fq sn) (hR : pp_RM R cells slots 4 94) (hsz : ls.size = nL) (hrest : (rest.map fun v => v.category).sum ≤ 8) (hdg : decode cc pc = .ok (.invokevirtual 62, 3)) (kk : W p l e R s m args below meth c H locs cells slots Q (F0 m (pc + 3) ls (.int (nI (pp_poss cn qq mq fq sn (pp_dig a1))) :: rest))) : W p l e R s m args below meth c H locs cells slots Q (F0 m pc ls (.int (nI a1) :: .ref (ad 0) :: rest)) := pp_cS_i (n := 1) hC hw.1 hw.2.1 (mM_isPossible l D dA dL ad cn qq mq fq sn a1 hA hok) (lw_V q315 q317 qs27 q31 q318) (by decide +kernel) rfl rfl rfl hR (va_recv hC.2 hw.1 (ci := 1) (q0 := 0) rfl rfl) hsz hrest hdg rfl (fun r h => by rw [h]; exact kk)
end PC_M_isPossible
section PL_posM
variable {p : Program} {l : Launch} {e : Env} {R : Room} {s : State} {m : MethodId} {args : Array Value} {below : List Frame} {meth : Method} {c : Code} {H : Heap} {locs : List Loc} {cells slots : Nat} {Q : State → Prop}
variable {cc : ByteArray} {pc nL : Nat} {ls : Array Slot} {rest : List Value}
variable {D : va_G} {dA dL : ClassId} {ad : Nat → Nat} {A : Nat → Prop} {H0 : Heap} {cn qq : Nat} {mq fq sn : Nat → Nat}
set_option maxHeartbeats 4000000 in
set_option maxRecDepth 100000 in
theorem lM_pos (hC : pp_CX p m c cX1_possible 5 s args RX1 D dA dL) (hw : pp_IM D dA dL ad A H0 cn qq mq fq sn H locs) (hR : pp_RM R cells slots 4 94) (hok : pp_ok cn qq mq fq sn) (hcn : cn ≤ 7) (h3 : 3 ^ cn ≤ 2187) {x : Int32} (ex : x = nI (pp_j x) ∧ pp_j x < cn) : ∀ (n : Nat) (k : Nat) (ls : Array Slot), 3 ^ cn - k = n → k ≤ 3 ^ cn → lv_has ls 5 [(0, .ref (ad 0)), (1, .int x), (3, .int (nI (3 ^ cn))), (2, .int (nI (pp_mps cn qq mq fq sn (pp_j x) k))), (4, .int (nI k))] → (∀ (ls : Array Slot), lv_has ls 5 [(0, .ref (ad 0)), (1, .int x), (3, .int (nI (3 ^ cn))), (2, .int (nI (pp_mps cn qq mq fq sn (pp_j x) (3 ^ cn)))), (4, .int (nI (3 ^ cn)))] → W p l e R s m args below meth c H locs cells slots Q (F0 m 57 ls [])) → W p l e R s m args below meth c H locs cells slots Q (F0 m 24 ls []) := by
  have hx := hC.1.1
  have hb := hC.1.2.1
  intro n
  induction n using Nat.strongRecOn with
  | ind n ih =>
    intro k ls hn g1 hl kk1
    refine lv_iload hx hb dX1_possible_24 (lv_at hl 4 rfl) ?_
    refine lv_iload_n hx hb dX1_possible_26 rfl (lv_at hl 2 rfl) ?_
    refine nr_ge (tgt := 57) hx hb dX1_possible_27 (by decide) (by omega) (by omega) (fun h1 => ?_) (fun h1 => ?_)
    · obtain rfl : k = 3 ^ cn := by omega
      exact kk1 ls hl
    · refine lv_aload_n hx hb dX1_possible_30 rfl (lv_at hl 0 rfl) ?_
      refine lv_iload hx hb dX1_possible_31 (lv_at hl 4 rfl) ?_
      refine mc_isPossible  hC hw (by omega) hok (hR.le (by decide) (by decide)) hl.1 (Nat.le_of_ble_eq_true rfl) dX1_possible_33 ?_
      refine nr_z_eq (tgt := 51) hx hb dX1_possible_36 (by decide) (by have := pp_poss_lt cn qq mq fq sn (pp_dig k); omega) (fun h2 => ?_) (fun h2 => ?_)
      · rw [show pp_mps cn qq mq fq sn (pp_j x) k = pp_mps cn qq mq fq sn (pp_j x) (k + 1) from by rw [pp_mps, if_pos h2]] at hl
        refine lv_iinc (v := (nI (k + 1))) (lv' := [(4, .int (nI (k + 1))), (0, .ref (ad 0)), (1, .int x), (3, .int (nI (3 ^ cn))), (2, .int (nI (pp_mps cn qq mq fq sn (pp_j x) (k + 1))))]) hx hb dX1_possible_51 hl (k := 4) rfl (pn_inc _) (by decide) rfl (fun ls hl => ?_)
        refine lv_goto (tgt := 24) hx hb dX1_possible_54 (by decide) ?_
        exact ih (3 ^ cn - (k + 1)) (by omega) (k + 1) ls rfl (by omega) (lv_sub hl [1, 2, 3, 4, 0] rfl) kk1
      · refine lv_iload_n hx hb dX1_possible_39 rfl (lv_at hl 3 rfl) ?_
        refine lv_iconst (v := (nI 1)) hx hb dX1_possible_40 (by decide) ?_
        refine lv_aload_n hx hb dX1_possible_41 rfl (lv_at hl 0 rfl) ?_
        refine lv_iload hx hb dX1_possible_42 (lv_at hl 4 rfl) ?_
        refine lv_iload_n hx hb dX1_possible_44 rfl (lv_at hl 1 rfl) ?_
        refine nr_top (y := (nI (pp_j x))) ex.1 ?_
        refine mc_genotype  hC hw (by omega) (by omega) (hR.le (by decide) (by decide)) hl.1 (Nat.le_of_ble_eq_true rfl) dX1_possible_45 ?_
        refine nr_shl1 hx hb (by have := pp_dig_G k (pp_j x); omega) dX1_possible_48 ?_
        refine nr_or hx hb dX1_possible_49 ?_
        refine nr_top (y := (nI (pp_mps cn qq mq fq sn (pp_j x) (k + 1)))) (by rw [pp_mps, if_neg h2]) ?_
        refine lv_istore_n (lv' := [(2, .int (nI (pp_mps cn qq mq fq sn (pp_j x) (k + 1)))), (0, .ref (ad 0)), (1, .int x), (3, .int (nI (3 ^ cn))), (4, .int (nI k))]) hx hb dX1_possible_50 rfl hl (by decide) rfl (fun ls hl => ?_)
        refine lv_iinc (v := (nI (k + 1))) (lv' := [(4, .int (nI (k + 1))), (2, .int (nI (pp_mps cn qq mq fq sn (pp_j x) (k + 1)))), (0, .ref (ad 0)), (1, .int x), (3, .int (nI (3 ^ cn)))]) hx hb dX1_possible_51 hl (k := 4) rfl (pn_inc _) (by decide) rfl (fun ls hl => ?_)
        refine lv_goto (tgt := 24) hx hb dX1_possible_54 (by decide) ?_
        exact ih (3 ^ cn - (k + 1)) (by omega) (k + 1) ls rfl (by omega) (lv_sub hl [2, 3, 4, 1, 0] rfl) kk1
end PL_posM
set_option maxHeartbeats 4000000 in
set_option maxRecDepth 100000 in
theorem mM_possible (l : Launch) (D : va_G) (dA dL : ClassId) (ad : Nat → Nat) (cn qq : Nat) (mq fq sn : Nat → Nat) (x : Int32) (hok : pp_ok cn qq mq fq sn) : Met l yX1_possible (ws_ yX1_possible cX1_possible 5 (some .int)) ({ frames := 4, cells := 0, slots := 0, locals := 94 } : Room) (pp_Pc D dA dL (pp_WM dA dL ad cn qq mq fq sn) [.ref (ad 0), .int x]) (vp_Si (fun z0 => z0 = (nI (pp_mpos cn qq mq fq sn x)))) 0 0 (fun _ => False) := by
  refine pp_ofM (by decide) rfl (Nat.le_of_ble_eq_true rfl) ?_
  intro p e s m below meth c ls hC hr hlocks hw hl
  have hx := hC.1.1
  have hb := hC.1.2.1
  have hl : lv_has ls 5 [(0, .ref (ad 0)), (1, .int x)] := hl
  have hR : pp_RM ({ frames := 4, cells := 0, slots := 0, locals := 94 } : Room) 0 0 4 94 := ⟨Nat.le_of_ble_eq_true rfl, Nat.le_of_ble_eq_true rfl, Nat.le_of_ble_eq_true rfl, Nat.le_of_ble_eq_true rfl⟩
  have h3 := pp_3lt hok.1
  have hcn := hok.1
  refine lv_aload_n hx hb dX1_possible_0 rfl (lv_at hl 0 rfl) ?_
  refine lv_iload_n hx hb dX1_possible_1 rfl (lv_at hl 1 rfl) ?_
  refine mc_isPerson  hC hw  (hR.le (by decide) (by decide)) hl.1 (Nat.le_of_ble_eq_true rfl) dX1_possible_2 ?_
  refine nr_z_ne (tgt := 10) hx hb dX1_possible_5 (by decide) (by omega) (fun k1 => ?_) (fun k1 => ?_)
  · have k1 : pp_bad cn x = 0 := by have := pp_bad_lt cn x; omega
    refine lv_iconst (v := (nI 0)) hx hb dX1_possible_10 (by decide) ?_
    refine lv_istore_n (lv' := [(2, .int (nI 0)), (0, .ref (ad 0)), (1, .int x)]) hx hb dX1_possible_11 rfl hl (by decide) rfl (fun ls hl => ?_)
    refine lv_aload_n hx hb dX1_possible_12 rfl (lv_at hl 1 rfl) ?_
    refine lv_aload_n hx hb dX1_possible_13 rfl (lv_at hl 1 rfl) ?_
    refine mg_cn hC hw dX1_possible_14 ?_
    refine mc_power  hC hw hok.1 (hR.le (by decide) (by decide)) hl.1 (Nat.le_of_ble_eq_true rfl) dX1_possible_17 ?_
    refine lv_istore_n (lv' := [(3, .int (nI (3 ^ cn))), (2, .int (nI 0)), (0, .ref (ad 0)), (1, .int x)]) hx hb dX1_possible_20 rfl hl (by decide) rfl (fun ls hl => ?_)
    refine lv_iconst (v := (nI 0)) hx hb dX1_possible_21 (by decide) ?_
    refine lv_istore (lv' := [(4, .int (nI 0)), (3, .int (nI (3 ^ cn))), (2, .int (nI 0)), (0, .ref (ad 0)), (1, .int x)]) hx hb dX1_possible_22 hl (by decide) rfl (fun ls hl => ?_)
    refine lM_pos hC hw hR hok hcn h3 (pp_bad_0 k1 hcn) (3 ^ cn) 0 ls rfl (Nat.zero_le _) (lv_sub hl [3, 4, 1, 2, 0] rfl) (fun ls hl => ?_)
    refine lv_iload_n hx hb dX1_possible_57 rfl (lv_at hl 3 rfl) ?_
    exact pp_rS_i hx hb hr hlocks dX1_possible_58 (by rw [pp_mpos, if_pos k1])
  · refine lv_iconst (v := (nI 0)) hx hb dX1_possible_8 (by decide) ?_
    exact pp_rS_i hx hb hr hlocks dX1_possible_9 (by rw [pp_mpos, if_neg (by omega)])
section PC_M_possible
variable {p : Program} {l : Launch} {e : Env} {R : Room} {s : State} {m : MethodId} {args : Array Value} {below : List Frame} {meth : Method} {c : Code} {H : Heap} {locs : List Loc} {cells slots : Nat} {Q : State → Prop}
variable {cc : ByteArray} {pc nL : Nat} {ls : Array Slot} {rest : List Value}
variable {D : va_G} {dA dL : ClassId} {ad : Nat → Nat} {A : Nat → Prop} {H0 : Heap} {cn qq : Nat} {mq fq sn : Nat → Nat}
set_option maxRecDepth 100000 in
theorem mcL_possible (hC : pp_CX p m c cc nL s args R_law D dA dL) (hw : pp_IM D dA dL ad A H0 cn qq mq fq sn H locs) {x : Int32} (hok : pp_ok cn qq mq fq sn) (hR : pp_RM R cells slots 5 118) (hsz : ls.size = nL) (hrest : (rest.map fun v => v.category).sum ≤ 8) (hdg : decode cc pc = .ok (.invokevirtual 68, 3)) (kk : W p l e R s m args below meth c H locs cells slots Q (F0 m (pc + 3) ls (.int (nI (pp_mpos cn qq mq fq sn x)) :: rest))) : W p l e R s m args below meth c H locs cells slots Q (F0 m pc ls (.int x :: .ref (ad 0) :: rest)) := pp_cS_i (n := 1) hC hw.1 hw.2.1 (mM_possible l D dA dL ad cn qq mq fq sn x hok) (lw_V q311 q312 q313 q31 q314) (by decide +kernel) rfl rfl rfl hR (va_recv hC.2 hw.1 (ci := 1) (q0 := 0) rfl rfl) hsz hrest hdg rfl (fun r h => by rw [h]; exact kk)
end PC_M_possible
section PL_foreM
variable {p : Program} {l : Launch} {e : Env} {R : Room} {s : State} {m : MethodId} {args : Array Value} {below : List Frame} {meth : Method} {c : Code} {H : Heap} {locs : List Loc} {cells slots : Nat} {Q : State → Prop}
variable {cc : ByteArray} {pc nL : Nat} {ls : Array Slot} {rest : List Value}
variable {D : va_G} {dA dL : ClassId} {ad : Nat → Nat} {A : Nat → Prop} {H0 : Heap} {cn qq : Nat} {mq fq sn : Nat → Nat}
set_option maxHeartbeats 4000000 in
set_option maxRecDepth 100000 in
theorem lM_fore (hC : pp_CX p m c cX1_forefathers 4 s args RX1 D dA dL) (hw : pp_IM D dA dL ad A H0 cn qq mq fq sn H locs) {r : Nat} (hok : pp_ok cn qq mq fq sn) : ∀ (n S : Nat) (ls : Array Slot), n ≤ cn → S < 128 → lv_has ls 4 [(0, .ref (ad 0)), (1, .int (nI r)), (2, .int (nI S)), (3, .int (nI n - 1))] → (∀ (ls : Array Slot), lv_has ls 4 [(0, .ref (ad 0)), (1, .int (nI r)), (2, .int (nI (pp_anc mq fq n S))), (3, .int (nI 0 - 1))] → W p l e R s m args below meth c H locs cells slots Q (F0 m 86 ls [])) → W p l e R s m args below meth c H locs cells slots Q (F0 m 38 ls []) := by
  have hx := hC.1.1
  have hb := hC.1.2.1
  have hcn := hok.1
  intro n
  induction n with
  | zero =>
    intro S ls hn hS hl kk
    refine lv_iload_n hx hb dX1_forefathers_38 rfl (lv_at hl 3 rfl) ?_
    refine nr_m_lt (tgt := 86) hx hb dX1_forefathers_39 (by decide) (by omega) (fun h1 => ?_) (fun h1 => ?_)
    · exact kk ls hl
    · exact absurd rfl h1
  | succ n ih =>
    intro S ls hn hS hl kk
    have hpp := pp_par hok (p := n) (by omega)
    refine lv_iload_n hx hb dX1_forefathers_38 rfl (lv_at hl 3 rfl) ?_
    refine nr_m_lt (tgt := 86) hx hb dX1_forefathers_39 (by decide) (by omega) (fun h1 => ?_) (fun h1 => ?_)
    · exact absurd h1 (by omega)
    · rw [nI_pred] at hl
      refine lv_iload_n hx hb dX1_forefathers_42 rfl (lv_at hl 2 rfl) ?_
      refine lv_iload_n hx hb dX1_forefathers_43 rfl (lv_at hl 3 rfl) ?_
      refine nr_shr hx hb (by omega) (by omega) dX1_forefathers_44 ?_
      refine lv_iconst (v := (nI 1)) hx hb dX1_forefathers_45 (by decide) ?_
      refine nr_bt hx hb (by omega) dX1_forefathers_46 ?_
      refine lv_iconst (v := (nI 1)) hx hb dX1_forefathers_47 (by decide) ?_
      refine nr_ne (tgt := 80) hx hb dX1_forefathers_48 (by decide) (by have := pp_bt_lt S n; omega) (by omega) (fun h2 => ?_) (fun h2 => ?_)
      · refine lv_iinc (v := (nI n - 1)) (lv' := [(3, .int (nI n - 1)), (0, .ref (ad 0)), (1, .int (nI r)), (2, .int (nI S))]) hx hb dX1_forefathers_80 hl (k := 3) rfl (pn_dec _) (by decide) rfl (fun ls hl => ?_)
        refine lv_goto (tgt := 38) hx hb dX1_forefathers_83 (by decide) ?_
        exact ih S ls (by omega) hS (lv_sub hl [1, 2, 3, 0] rfl) (by rw [pp_anc, if_neg (by rintro ⟨a, b⟩; first | exact h2 a | exact b h3)] at kk; exact kk)
      · refine lv_aload_n hx hb dX1_forefathers_51 rfl (lv_at hl 0 rfl) ?_
        refine mg_mq hC hw dX1_forefathers_52 ?_
        refine lv_iload_n hx hb dX1_forefathers_55 rfl (lv_at hl 3 rfl) ?_
        refine ml_mq hC hw (by omega) dX1_forefathers_56 ?_
        refine nr_m_lt (tgt := 80) hx hb dX1_forefathers_57 (by decide) (by omega) (fun h3 => ?_) (fun h3 => ?_)
        · refine lv_iinc (v := (nI n - 1)) (lv' := [(3, .int (nI n - 1)), (0, .ref (ad 0)), (1, .int (nI r)), (2, .int (nI S))]) hx hb dX1_forefathers_80 hl (k := 3) rfl (pn_dec _) (by decide) rfl (fun ls hl => ?_)
          refine lv_goto (tgt := 38) hx hb dX1_forefathers_83 (by decide) ?_
          exact ih S ls (by omega) hS (lv_sub hl [1, 2, 3, 0] rfl) (by rw [pp_anc, if_neg (by rintro ⟨a, b⟩; first | exact h2 a | exact b h3)] at kk; exact kk)
        · refine lv_iload_n hx hb dX1_forefathers_60 rfl (lv_at hl 2 rfl) ?_
          refine lv_iconst (v := (nI 1)) hx hb dX1_forefathers_61 (by decide) ?_
          refine lv_aload_n hx hb dX1_forefathers_62 rfl (lv_at hl 0 rfl) ?_
          refine mg_mq hC hw dX1_forefathers_63 ?_
          refine lv_iload_n hx hb dX1_forefathers_66 rfl (lv_at hl 3 rfl) ?_
          refine ml_mq hC hw (by omega) dX1_forefathers_67 ?_
          refine nr_top (y := (nI (mq n - 1))) (pn_m h3) ?_
          refine nr_shl1 hx hb (by omega) dX1_forefathers_68 ?_
          refine nr_or hx hb dX1_forefathers_69 ?_
          refine lv_iconst (v := (nI 1)) hx hb dX1_forefathers_70 (by decide) ?_
          refine lv_aload_n hx hb dX1_forefathers_71 rfl (lv_at hl 0 rfl) ?_
          refine mg_fq hC hw dX1_forefathers_72 ?_
          refine lv_iload_n hx hb dX1_forefathers_75 rfl (lv_at hl 3 rfl) ?_
          refine ml_fq hC hw (by omega) dX1_forefathers_76 ?_
          refine nr_top (y := (nI (fq n - 1))) (pn_m (hpp.2.2 h3)) ?_
          refine nr_shl1 hx hb (by omega) dX1_forefathers_77 ?_
          refine nr_or hx hb dX1_forefathers_78 ?_
          refine lv_istore_n (lv' := [(2, .int (nI ((S ||| (2 ^ (mq n - 1))) ||| (2 ^ (fq n - 1))))), (0, .ref (ad 0)), (1, .int (nI r)), (3, .int (nI n))]) hx hb dX1_forefathers_79 rfl hl (by decide) rfl (fun ls hl => ?_)
          refine lv_iinc (v := (nI n - 1)) (lv' := [(3, .int (nI n - 1)), (2, .int (nI ((S ||| (2 ^ (mq n - 1))) ||| (2 ^ (fq n - 1))))), (0, .ref (ad 0)), (1, .int (nI r))]) hx hb dX1_forefathers_80 hl (k := 3) rfl (pn_dec _) (by decide) rfl (fun ls hl => ?_)
          refine lv_goto (tgt := 38) hx hb dX1_forefathers_83 (by decide) ?_
          exact ih _ ls (by omega) (pp_or_lt (pp_or_lt hS (pp_pow_lt (by omega))) (pp_pow_lt (by omega))) (lv_sub hl [2, 3, 1, 0] rfl) (by rw [pp_anc, if_pos ⟨h2, h3⟩] at kk; exact kk)
end PL_foreM
theorem pp_pr0_lt {mq fq : Nat → Nat} {r : Nat} (hm : mq r ≤ 7) (hf : fq r ≤ 7) (hp : mq r ≠ 0 → fq r ≠ 0) : pp_pr0 mq fq r < 128 := by
  unfold pp_pr0
  by_cases h : mq r = 0
  · rw [if_pos h]; decide
  · have := hp h
    rw [if_neg h]; exact pp_or_lt (pp_pow_lt (by omega)) (pp_pow_lt (by omega))
set_option maxHeartbeats 4000000 in
set_option maxRecDepth 100000 in
theorem mM_forefathers (l : Launch) (D : va_G) (dA dL : ClassId) (ad : Nat → Nat) (cn qq : Nat) (mq fq sn : Nat → Nat) (r : Nat) (hok : pp_ok cn qq mq fq sn) (hrc : r < cn) : Met l yX1_forefathers (ws_ yX1_forefathers cX1_forefathers 4 (some .int)) ({ frames := 0, cells := 0, slots := 0, locals := 0 } : Room) (pp_Pc D dA dL (pp_WM dA dL ad cn qq mq fq sn) [.ref (ad 0), .int (nI r)]) (vp_Si (fun z0 => z0 = (nI (pp_anc mq fq cn (pp_pr0 mq fq r))))) 0 0 (fun _ => False) := by
  refine pp_ofM (by decide) rfl (Nat.le_of_ble_eq_true rfl) ?_
  intro p e s m below meth c ls hC hr hlocks hw hl
  have hx := hC.1.1
  have hb := hC.1.2.1
  have hl : lv_has ls 4 [(0, .ref (ad 0)), (1, .int (nI r))] := hl
  have hcn := hok.1
  have hpp := pp_par hok hrc
  have hlt : pp_pr0 mq fq r < 128 := pp_pr0_lt (by omega) (by omega) hpp.2.2
  refine lv_aload_n hx hb dX1_forefathers_0 rfl (lv_at hl 0 rfl) ?_
  refine mg_mq hC hw dX1_forefathers_1 ?_
  refine lv_iload_n hx hb dX1_forefathers_4 rfl (lv_at hl 1 rfl) ?_
  refine ml_mq hC hw (by omega) dX1_forefathers_5 ?_
  refine nr_m_ge (tgt := 13) hx hb dX1_forefathers_6 (by decide) (by omega) (fun h1 => ?_) (fun h1 => ?_)
  · refine lv_iconst (v := (nI 1)) hx hb dX1_forefathers_13 (by decide) ?_
    refine lv_aload_n hx hb dX1_forefathers_14 rfl (lv_at hl 0 rfl) ?_
    refine mg_mq hC hw dX1_forefathers_15 ?_
    refine lv_iload_n hx hb dX1_forefathers_18 rfl (lv_at hl 1 rfl) ?_
    refine ml_mq hC hw (by omega) dX1_forefathers_19 ?_
    refine nr_top (y := (nI (mq r - 1))) (pn_m h1) ?_
    refine nr_shl1 hx hb (by omega) dX1_forefathers_20 ?_
    refine lv_iconst (v := (nI 1)) hx hb dX1_forefathers_21 (by decide) ?_
    refine lv_aload_n hx hb dX1_forefathers_22 rfl (lv_at hl 0 rfl) ?_
    refine mg_fq hC hw dX1_forefathers_23 ?_
    refine lv_iload_n hx hb dX1_forefathers_26 rfl (lv_at hl 1 rfl) ?_
    refine ml_fq hC hw (by omega) dX1_forefathers_27 ?_
    refine nr_top (y := (nI (fq r - 1))) (pn_m (hpp.2.2 h1)) ?_
    refine nr_shl1 hx hb (by omega) dX1_forefathers_28 ?_
    refine nr_or hx hb dX1_forefathers_29 ?_
    refine nr_top (y := (nI (pp_pr0 mq fq r))) (by rw [pp_pr0, if_neg h1]) ?_
    refine lv_istore_n (lv' := [(2, .int (nI (pp_pr0 mq fq r))), (0, .ref (ad 0)), (1, .int (nI r))]) hx hb dX1_forefathers_30 rfl hl (by decide) rfl (fun ls hl => ?_)
    refine lv_aload_n hx hb dX1_forefathers_31 rfl (lv_at hl 1 rfl) ?_
    refine mg_cn hC hw dX1_forefathers_32 ?_
    refine lv_iconst (v := (nI 1)) hx hb dX1_forefathers_35 (by decide) ?_
    refine lv_isub hx hb dX1_forefathers_36 ?_
    refine nr_top (y := (nI cn - 1)) rfl ?_
    refine lv_istore_n (lv' := [(3, .int (nI cn - 1)), (2, .int (nI (pp_pr0 mq fq r))), (0, .ref (ad 0)), (1, .int (nI r))]) hx hb dX1_forefathers_37 rfl hl (by decide) rfl (fun ls hl => ?_)
    refine lM_fore hC hw hok cn (pp_pr0 mq fq r) ls (Nat.le_refl cn) hlt (lv_sub hl [2, 3, 1, 0] rfl) (fun ls hl => ?_)
    refine lv_iload_n hx hb dX1_forefathers_86 rfl (lv_at hl 2 rfl) ?_
    exact pp_rS_i hx hb hr hlocks dX1_forefathers_87 rfl
  · refine lv_iconst (v := (nI 0)) hx hb dX1_forefathers_9 (by decide) ?_
    refine nr_top (y := (nI (pp_pr0 mq fq r))) (by rw [pp_pr0, if_pos h1]) ?_
    refine lv_goto (tgt := 30) hx hb dX1_forefathers_10 (by decide) ?_
    refine lv_istore_n (lv' := [(2, .int (nI (pp_pr0 mq fq r))), (0, .ref (ad 0)), (1, .int (nI r))]) hx hb dX1_forefathers_30 rfl hl (by decide) rfl (fun ls hl => ?_)
    refine lv_aload_n hx hb dX1_forefathers_31 rfl (lv_at hl 1 rfl) ?_
    refine mg_cn hC hw dX1_forefathers_32 ?_
    refine lv_iconst (v := (nI 1)) hx hb dX1_forefathers_35 (by decide) ?_
    refine lv_isub hx hb dX1_forefathers_36 ?_
    refine nr_top (y := (nI cn - 1)) rfl ?_
    refine lv_istore_n (lv' := [(3, .int (nI cn - 1)), (2, .int (nI (pp_pr0 mq fq r))), (0, .ref (ad 0)), (1, .int (nI r))]) hx hb dX1_forefathers_37 rfl hl (by decide) rfl (fun ls hl => ?_)
    refine lM_fore hC hw hok cn (pp_pr0 mq fq r) ls (Nat.le_refl cn) hlt (lv_sub hl [2, 3, 1, 0] rfl) (fun ls hl => ?_)
    refine lv_iload_n hx hb dX1_forefathers_86 rfl (lv_at hl 2 rfl) ?_
    exact pp_rS_i hx hb hr hlocks dX1_forefathers_87 rfl
section PC_M_forefathers
variable {p : Program} {l : Launch} {e : Env} {R : Room} {s : State} {m : MethodId} {args : Array Value} {below : List Frame} {meth : Method} {c : Code} {H : Heap} {locs : List Loc} {cells slots : Nat} {Q : State → Prop}
variable {cc : ByteArray} {pc nL : Nat} {ls : Array Slot} {rest : List Value}
variable {D : va_G} {dA dL : ClassId} {ad : Nat → Nat} {A : Nat → Prop} {H0 : Heap} {cn qq : Nat} {mq fq sn : Nat → Nat}
set_option maxRecDepth 100000 in
theorem mc_forefathers (hC : pp_CX p m c cc nL s args RX1 D dA dL) (hw : pp_IM D dA dL ad A H0 cn qq mq fq sn H locs) {r : Nat} (hok : pp_ok cn qq mq fq sn) (hrc : r < cn) (hR : pp_RM R cells slots 1 23) (hsz : ls.size = nL) (hrest : (rest.map fun v => v.category).sum ≤ 8) (hdg : decode cc pc = .ok (.invokevirtual 65, 3)) (kk : W p l e R s m args below meth c H locs cells slots Q (F0 m (pc + 3) ls (.int (nI (pp_anc mq fq cn (pp_pr0 mq fq r))) :: rest))) : W p l e R s m args below meth c H locs cells slots Q (F0 m pc ls (.int (nI r) :: .ref (ad 0) :: rest)) := pp_cS_i (n := 1) hC hw.1 hw.2.1 (mM_forefathers l D dA dL ad cn qq mq fq sn r hok hrc) (lw_V q323 q325 qs28 q31 q326) (by decide +kernel) rfl rfl rfl hR (va_recv hC.2 hw.1 (ci := 1) (q0 := 0) rfl rfl) hsz hrest hdg rfl (fun r h => by rw [h]; exact kk)
end PC_M_forefathers
set_option maxHeartbeats 4000000 in
set_option maxRecDepth 100000 in
theorem mM_before (l : Launch) (D : va_G) (dA dL : ClassId) (ad : Nat → Nat) (cn qq : Nat) (mq fq sn : Nat → Nat) (x : Int32) (y : Int32) (hok : pp_ok cn qq mq fq sn) : Met l yX1_before (ws_ yX1_before cX1_before 3 (some .boolean)) ({ frames := 1, cells := 0, slots := 0, locals := 23 } : Room) (pp_Pc D dA dL (pp_WM dA dL ad cn qq mq fq sn) [.ref (ad 0), .int x, .int y]) (vp_Si (fun z0 => z0 = (nI (pp_mbef cn mq fq x y)))) 0 0 (fun _ => False) := by
  refine pp_ofM (by decide) rfl (Nat.le_of_ble_eq_true rfl) ?_
  intro p e s m below meth c ls hC hr hlocks hw hl
  have hx := hC.1.1
  have hb := hC.1.2.1
  have hl : lv_has ls 3 [(0, .ref (ad 0)), (1, .int x), (2, .int y)] := hl
  have hR : pp_RM ({ frames := 1, cells := 0, slots := 0, locals := 23 } : Room) 0 0 1 23 := ⟨Nat.le_of_ble_eq_true rfl, Nat.le_of_ble_eq_true rfl, Nat.le_of_ble_eq_true rfl, Nat.le_of_ble_eq_true rfl⟩
  have hcn := hok.1
  refine lv_aload_n hx hb dX1_before_0 rfl (lv_at hl 0 rfl) ?_
  refine lv_iload_n hx hb dX1_before_1 rfl (lv_at hl 1 rfl) ?_
  refine mc_isPerson  hC hw  (hR.le (by decide) (by decide)) hl.1 (Nat.le_of_ble_eq_true rfl) dX1_before_2 ?_
  refine nr_z_eq (tgt := 33) hx hb dX1_before_5 (by decide) (by omega) (fun k1 => ?_) (fun k1 => ?_)
  · refine lv_iconst (v := (nI 0)) hx hb dX1_before_33 (by decide) ?_
    exact pp_rS_z hx hb hr hlocks dX1_before_34 (by unfold pp_mbef; rw [if_neg]; rintro ⟨a, b, c⟩; first | omega | exact h4 c) (by decide)
  · have k1 : pp_bad cn x = 0 := by have := pp_bad_lt cn x; omega
    refine lv_aload_n hx hb dX1_before_8 rfl (lv_at hl 0 rfl) ?_
    refine lv_iload_n hx hb dX1_before_9 rfl (lv_at hl 2 rfl) ?_
    refine mc_isPerson  hC hw  (hR.le (by decide) (by decide)) hl.1 (Nat.le_of_ble_eq_true rfl) dX1_before_10 ?_
    refine nr_z_eq (tgt := 33) hx hb dX1_before_13 (by decide) (by omega) (fun k2 => ?_) (fun k2 => ?_)
    · refine lv_iconst (v := (nI 0)) hx hb dX1_before_33 (by decide) ?_
      exact pp_rS_z hx hb hr hlocks dX1_before_34 (by unfold pp_mbef; rw [if_neg]; rintro ⟨a, b, c⟩; first | omega | exact h4 c) (by decide)
    · have k2 : pp_bad cn y = 0 := by have := pp_bad_lt cn y; omega
      have hjy := (pp_bad_0 k2 hcn).2
      have hjx := (pp_bad_0 k1 hcn).2
      have hpp := pp_par hok hjy
      have hlt : pp_anc mq fq cn (pp_pr0 mq fq (pp_j y)) < 128 := pp_anc_lt _ _ (fun k hk => by have := pp_par hok hk; omega) (pp_pr0_lt (by omega) (by omega) hpp.2.2)
      refine lv_aload_n hx hb dX1_before_16 rfl (lv_at hl 0 rfl) ?_
      refine lv_iload_n hx hb dX1_before_17 rfl (lv_at hl 2 rfl) ?_
      refine nr_top (y := (nI (pp_j y))) (pp_bad_0 k2 hcn).1 ?_
      refine mc_forefathers  hC hw hok hjy (hR.le (by decide) (by decide)) hl.1 (Nat.le_of_ble_eq_true rfl) dX1_before_18 ?_
      refine lv_iload_n hx hb dX1_before_21 rfl (lv_at hl 1 rfl) ?_
      refine nr_top (y := (nI (pp_j x))) (pp_bad_0 k1 hcn).1 ?_
      refine nr_shr hx hb (by omega) (by omega) dX1_before_22 ?_
      refine lv_iconst (v := (nI 1)) hx hb dX1_before_23 (by decide) ?_
      refine nr_bt hx hb (by omega) dX1_before_24 ?_
      refine lv_iconst (v := (nI 1)) hx hb dX1_before_25 (by decide) ?_
      refine nr_ne (tgt := 33) hx hb dX1_before_26 (by decide) (by have := pp_bt_lt (pp_anc mq fq cn (pp_pr0 mq fq (pp_j y))) (pp_j x); omega) (by omega) (fun h4 => ?_) (fun h4 => ?_)
      · refine lv_iconst (v := (nI 0)) hx hb dX1_before_33 (by decide) ?_
        exact pp_rS_z hx hb hr hlocks dX1_before_34 (by unfold pp_mbef; rw [if_neg]; rintro ⟨a, b, c⟩; first | omega | exact h4 c) (by decide)
      · refine lv_iconst (v := (nI 1)) hx hb dX1_before_29 (by decide) ?_
        refine lv_goto (tgt := 34) hx hb dX1_before_30 (by decide) ?_
        exact pp_rS_z hx hb hr hlocks dX1_before_34 (by rw [pp_mbef, if_pos ⟨k1, k2, h4⟩]) (by decide)
section PC_M_before
variable {p : Program} {l : Launch} {e : Env} {R : Room} {s : State} {m : MethodId} {args : Array Value} {below : List Frame} {meth : Method} {c : Code} {H : Heap} {locs : List Loc} {cells slots : Nat} {Q : State → Prop}
variable {cc : ByteArray} {pc nL : Nat} {ls : Array Slot} {rest : List Value}
variable {D : va_G} {dA dL : ClassId} {ad : Nat → Nat} {A : Nat → Prop} {H0 : Heap} {cn qq : Nat} {mq fq sn : Nat → Nat}
set_option maxRecDepth 100000 in
theorem mcL_before (hC : pp_CX p m c cc nL s args R_law D dA dL) (hw : pp_IM D dA dL ad A H0 cn qq mq fq sn H locs) {x : Int32} {y : Int32} (hok : pp_ok cn qq mq fq sn) (hR : pp_RM R cells slots 2 45) (hsz : ls.size = nL) (hrest : (rest.map fun v => v.category).sum ≤ 8) (hdg : decode cc pc = .ok (.invokevirtual 73, 3)) (kk : W p l e R s m args below meth c H locs cells slots Q (F0 m (pc + 3) ls (.int (nI (pp_mbef cn mq fq x y)) :: rest))) : W p l e R s m args below meth c H locs cells slots Q (F0 m pc ls (.int y :: .int x :: .ref (ad 0) :: rest)) := pp_cS_i (n := 2) hC hw.1 hw.2.1 (mM_before l D dA dL ad cn qq mq fq sn x y hok) (lw_V q319 q320 q321 q31 q322) (by decide +kernel) rfl rfl rfl hR (va_recv hC.2 hw.1 (ci := 1) (q0 := 0) rfl rfl) hsz hrest hdg rfl (fun r h => by rw [h]; exact kk)
end PC_M_before
end
section
section PL_addM
variable {p : Program} {l : Launch} {e : Env} {R : Room} {s : State} {m : MethodId} {args : Array Value} {below : List Frame} {meth : Method} {c : Code} {H : Heap} {locs : List Loc} {cells slots : Nat} {Q : State → Prop}
variable {cc : ByteArray} {pc nL : Nat} {ls : Array Slot} {rest : List Value}
variable {D : va_G} {dA dL : ClassId} {ad : Nat → Nat} {A : Nat → Prop} {H0 : Heap} {cn qq : Nat} {mq fq sn : Nat → Nat}
set_option maxHeartbeats 4000000 in
set_option maxRecDepth 100000 in
theorem lM_add (hC : pp_CX p m c cX1_add 4 s args RX1 D dA dL) {v1 v2 : Nat} (hcn : cn < 7) : ∀ (n : Nat) (i : Nat) (ls : Array Slot) (H : Heap) (locs : List Loc), 3 - i = n → i ≤ 3 → pp_IM D dA dL ad A H0 cn qq mq fq (pp_sn3 sn cn i) H locs → lv_has ls 4 [(0, .ref (ad 0)), (1, .int (nI v1 - 1)), (2, .int (nI v2 - 1)), (3, .int (nI i))] → (∀ (ls : Array Slot) (H : Heap) (locs : List Loc), pp_IM D dA dL ad A H0 cn qq mq fq (pp_sn3 sn cn 3) H locs → lv_has ls 4 [(0, .ref (ad 0)), (1, .int (nI v1 - 1)), (2, .int (nI v2 - 1)), (3, .int (nI 3))] → W p l e R s m args below meth c H locs cells slots Q (F0 m 59 ls [])) → W p l e R s m args below meth c H locs cells slots Q (F0 m 34 ls []) := by
  have hx := hC.1.1
  have hb := hC.1.2.1
  intro n
  induction n using Nat.strongRecOn with
  | ind n ih =>
    intro i ls H locs hn g1 hw hl kk1
    refine lv_iload_n hx hb dX1_add_34 rfl (lv_at hl 3 rfl) ?_
    refine lv_iconst (v := (nI 3)) hx hb dX1_add_35 (by decide) ?_
    refine nr_ge (tgt := 59) hx hb dX1_add_36 (by decide) (by omega) (by omega) (fun h1 => ?_) (fun h1 => ?_)
    · obtain rfl : i = 3 := by omega
      exact kk1 ls H locs hw hl
    · refine lv_aload_n hx hb dX1_add_39 rfl (lv_at hl 0 rfl) ?_
      refine mg_sn hC hw dX1_add_40 ?_
      refine lv_iconst (v := (nI 3)) hx hb dX1_add_43 (by decide) ?_
      refine lv_aload_n hx hb dX1_add_44 rfl (lv_at hl 0 rfl) ?_
      refine mg_cn hC hw dX1_add_45 ?_
      refine nr_mul hx hb dX1_add_48 ?_
      refine lv_iload_n hx hb dX1_add_49 rfl (lv_at hl 3 rfl) ?_
      refine nr_add hx hb dX1_add_50 ?_
      refine nr_top (y := (nI (3 * cn + i))) rfl ?_
      refine lv_iconst (v := (nI 1)) hx hb dX1_add_51 (by decide) ?_
      refine ms_sn hC hw (by omega) dX1_add_52 (fun H locs hw => ?_)
      rw [pp_sn3_s] at hw
      refine lv_iinc (v := (nI (i + 1))) (lv' := [(3, .int (nI (i + 1))), (0, .ref (ad 0)), (1, .int (nI v1 - 1)), (2, .int (nI v2 - 1))]) hx hb dX1_add_53 hl (k := 3) rfl (pn_inc _) (by decide) rfl (fun ls hl => ?_)
      refine lv_goto (tgt := 34) hx hb dX1_add_56 (by decide) ?_
      exact ih (3 - (i + 1)) (by omega) (i + 1) ls H locs rfl (by omega) hw (lv_sub hl [1, 2, 3, 0] rfl) kk1
end PL_addM
set_option maxHeartbeats 4000000 in
set_option maxRecDepth 100000 in
theorem mM_add (l : Launch) (D : va_G) (dA dL : ClassId) (ad : Nat → Nat) (cn qq : Nat) (mq fq sn : Nat → Nat) (v1 : Nat) (v2 : Nat) (hcn : cn ≤ 7) : Met l yX1_add (ws_ yX1_add cX1_add 4 (some .int)) ({ frames := 0, cells := 0, slots := 0, locals := 0 } : Room) (pp_Pc D dA dL (pp_WM dA dL ad cn qq mq fq sn) [.ref (ad 0), .int (nI v1 - 1), .int (nI v2 - 1)]) (va_Qi (fun (z0 : Int32) (u : Nat × (Nat → Nat) × (Nat → Nat) × (Nat → Nat)) => (z0, u) = pp_fadd cn mq fq sn v1 v2) (fun u t => va_P D vwCl ((fun (u : Nat × (Nat → Nat) × (Nat → Nat) × (Nat → Nat)) => pp_WM dA dL ad (u.1) qq (u.2.1) (u.2.2.1) (u.2.2.2)) u) t.heap) (pp_AM ad)) 0 0 (pp_AM ad) := by
  refine pp_ofM (by decide) rfl (Nat.le_of_ble_eq_true rfl) ?_
  intro p e s m below meth c ls hC hr hlocks hw hl
  have hx := hC.1.1
  have hb := hC.1.2.1
  have hl : lv_has ls 4 [(0, .ref (ad 0)), (1, .int (nI v1 - 1)), (2, .int (nI v2 - 1))] := hl
  refine lv_aload_n hx hb dX1_add_0 rfl (lv_at hl 0 rfl) ?_
  refine mg_cn hC hw dX1_add_1 ?_
  refine lv_bipush (v := (nI 7)) hx hb dX1_add_4 (by decide) ?_
  refine nr_ne (tgt := 12) hx hb dX1_add_6 (by decide) (by omega) (by omega) (fun h0 => ?_) (fun h0 => ?_)
  · refine lv_aload_n hx hb dX1_add_12 rfl (lv_at hl 0 rfl) ?_
    refine mg_mq hC hw dX1_add_13 ?_
    refine lv_aload_n hx hb dX1_add_16 rfl (lv_at hl 0 rfl) ?_
    refine mg_cn hC hw dX1_add_17 ?_
    refine lv_iload_n hx hb dX1_add_20 rfl (lv_at hl 1 rfl) ?_
    refine ms_mq hC hw (by omega) dX1_add_21 (fun H locs hw => ?_)
    refine lv_aload_n hx hb dX1_add_22 rfl (lv_at hl 0 rfl) ?_
    refine mg_fq hC hw dX1_add_23 ?_
    refine lv_aload_n hx hb dX1_add_26 rfl (lv_at hl 0 rfl) ?_
    refine mg_cn hC hw dX1_add_27 ?_
    refine lv_iload_n hx hb dX1_add_30 rfl (lv_at hl 2 rfl) ?_
    refine ms_fq hC hw (by omega) dX1_add_31 (fun H locs hw => ?_)
    refine lv_iconst (v := (nI 0)) hx hb dX1_add_32 (by decide) ?_
    refine lv_istore_n (lv' := [(3, .int (nI 0)), (0, .ref (ad 0)), (1, .int (nI v1 - 1)), (2, .int (nI v2 - 1))]) hx hb dX1_add_33 rfl hl (by decide) rfl (fun ls hl => ?_)
    refine lM_add (cn := cn) hC (by omega) 3 0 ls _ _ rfl (by decide) (by rw [pp_sn3_0]; exact hw) (lv_sub hl [1, 2, 3, 0] rfl) (fun ls H locs hw hl => ?_)
    refine lv_aload_n hx hb dX1_add_59 rfl (lv_at hl 0 rfl) ?_
    refine lv_dup hx hb dX1_add_60 rfl ?_
    refine mg_cn hC hw dX1_add_61 ?_
    refine lv_iconst (v := (nI 1)) hx hb dX1_add_64 (by decide) ?_
    refine nr_add hx hb dX1_add_65 ?_
    refine mp_cn hC hw dX1_add_66 (fun H locs hw => ?_)
    refine lv_aload_n hx hb dX1_add_69 rfl (lv_at hl 0 rfl) ?_
    refine mg_cn hC hw dX1_add_70 ?_
    refine lv_iconst (v := (nI 1)) hx hb dX1_add_73 (by decide) ?_
    refine nr_sub hx hb (by omega) dX1_add_74 ?_
    refine nr_top (y := (nI cn)) (by rw [Nat.add_sub_cancel]) ?_
    exact pp_rQ_i (F := fun (u : Nat × (Nat → Nat) × (Nat → Nat) × (Nat → Nat)) => pp_WM dA dL ad (u.1) qq (u.2.1) (u.2.2.1) (u.2.2.2)) hx hb hr hlocks dX1_add_75 (cn + 1, va_up mq cn v1, va_up fq cn v2, pp_sn3 sn cn 3) (by show (_, _) = pp_fadd _ _ _ _ _ _; rw [pp_fadd, if_neg h0]) hw.1 hw.2.2
  · refine lv_bipush (v := (-2)) hx hb dX1_add_9 (by decide) ?_
    exact pp_rQ_i (F := fun (u : Nat × (Nat → Nat) × (Nat → Nat) × (Nat → Nat)) => pp_WM dA dL ad (u.1) qq (u.2.1) (u.2.2.1) (u.2.2.2)) hx hb hr hlocks dX1_add_11 (cn, mq, fq, sn) (by show (_, _) = pp_fadd _ _ _ _ _ _; rw [pp_fadd, if_pos h0]) hw.1 hw.2.2
section PC_M_add
variable {p : Program} {l : Launch} {e : Env} {R : Room} {s : State} {m : MethodId} {args : Array Value} {below : List Frame} {meth : Method} {c : Code} {H : Heap} {locs : List Loc} {cells slots : Nat} {Q : State → Prop}
variable {cc : ByteArray} {pc nL : Nat} {ls : Array Slot} {rest : List Value}
variable {D : va_G} {dA dL : ClassId} {ad : Nat → Nat} {A : Nat → Prop} {H0 : Heap} {cn qq : Nat} {mq fq sn : Nat → Nat}
set_option maxRecDepth 100000 in
theorem mc_add (hC : pp_CX p m c cc nL s args RX1 D dA dL) (hw : pp_IM D dA dL ad A H0 cn qq mq fq sn H locs) {v1 : Nat} {v2 : Nat} (hcn : cn ≤ 7) (hR : pp_RM R cells slots 1 23) (hsz : ls.size = nL) (hrest : (rest.map fun v => v.category).sum ≤ 8) (hdg : decode cc pc = .ok (.invokevirtual 26, 3)) (kk : ∀ (r : Int32) (u : Nat × (Nat → Nat) × (Nat → Nat) × (Nat → Nat)) (H1 : Heap) (locs1 : List Loc), (fun (z0 : Int32) (u : Nat × (Nat → Nat) × (Nat → Nat) × (Nat → Nat)) => (z0, u) = pp_fadd cn mq fq sn v1 v2) r u → pp_IM D dA dL ad A H0 (u.1) qq (u.2.1) (u.2.2.1) (u.2.2.2) H1 locs1 → (∀ q : Nat, q < H.size → ¬ pp_AM ad q → H1[q]? = H[q]?) → W p l e R s m args below meth c H1 locs1 cells slots Q (F0 m (pc + 3) ls (.int r :: rest))) : W p l e R s m args below meth c H locs cells slots Q (F0 m pc ls (.int (nI v2 - 1) :: .int (nI v1 - 1) :: .ref (ad 0) :: rest)) := pp_cQ_i (n := 2) (F := fun (u : Nat × (Nat → Nat) × (Nat → Nat) × (Nat → Nat)) => pp_WM dA dL ad (u.1) qq (u.2.1) (u.2.2.1) (u.2.2.2)) hC hw.1 hw.2.1 hw.2.2 (mM_add l D dA dL ad cn qq mq fq sn v1 v2 hcn) (pp_D_all hw.2.1 rfl) (lw_V q234 q236 qs18 q31 q237) (by decide +kernel) rfl rfl rfl hR (va_recv hC.2 hw.1 (ci := 1) (q0 := 0) rfl rfl) hsz hrest hdg rfl (fun r u H1 l1 h hP hS hk => kk r u H1 l1 h ⟨hP, pp_D_addr hw.2.1 rfl, hS⟩ hk)
end PC_M_add
set_option maxHeartbeats 4000000 in
set_option maxRecDepth 100000 in
theorem mM_founder (l : Launch) (D : va_G) (dA dL : ClassId) (ad : Nat → Nat) (cn qq : Nat) (mq fq sn : Nat → Nat) (hcn : cn ≤ 7) : Met l yX1_founder (ws_ yX1_founder cX1_founder 1 (some .int)) ({ frames := 1, cells := 0, slots := 0, locals := 23 } : Room) (pp_Pc D dA dL (pp_WM dA dL ad cn qq mq fq sn) [.ref (ad 0)]) (va_Qi (fun (z0 : Int32) (u : Nat × (Nat → Nat) × (Nat → Nat) × (Nat → Nat)) => (z0, u) = pp_fadd cn mq fq sn 0 0) (fun u t => va_P D vwCl ((fun (u : Nat × (Nat → Nat) × (Nat → Nat) × (Nat → Nat)) => pp_WM dA dL ad (u.1) qq (u.2.1) (u.2.2.1) (u.2.2.2)) u) t.heap) (pp_AM ad)) 0 0 (pp_AM ad) := by
  refine pp_ofM (by decide) rfl (Nat.le_of_ble_eq_true rfl) ?_
  intro p e s m below meth c ls hC hr hlocks hw hl
  have hx := hC.1.1
  have hb := hC.1.2.1
  have hl : lv_has ls 1 [(0, .ref (ad 0))] := hl
  have hR : pp_RM ({ frames := 1, cells := 0, slots := 0, locals := 23 } : Room) 0 0 1 23 := ⟨Nat.le_of_ble_eq_true rfl, Nat.le_of_ble_eq_true rfl, Nat.le_of_ble_eq_true rfl, Nat.le_of_ble_eq_true rfl⟩
  refine lv_aload_n hx hb dX1_founder_0 rfl (lv_at hl 0 rfl) ?_
  refine lv_iconst (v := (nI 0 - 1)) hx hb dX1_founder_1 (by decide) ?_
  refine lv_iconst (v := (nI 0 - 1)) hx hb dX1_founder_2 (by decide) ?_
  refine mc_add hC hw hcn (hR.le (by decide) (by decide)) hl.1 (Nat.le_of_ble_eq_true rfl) dX1_founder_3 (fun r u H locs hru hw hk => ?_)
  exact pp_rQ_i (F := fun (u : Nat × (Nat → Nat) × (Nat → Nat) × (Nat → Nat)) => pp_WM dA dL ad (u.1) qq (u.2.1) (u.2.2.1) (u.2.2.2)) hx hb hr hlocks dX1_founder_6 u hru hw.1 hw.2.2
section PC_M_founder
variable {p : Program} {l : Launch} {e : Env} {R : Room} {s : State} {m : MethodId} {args : Array Value} {below : List Frame} {meth : Method} {c : Code} {H : Heap} {locs : List Loc} {cells slots : Nat} {Q : State → Prop}
variable {cc : ByteArray} {pc nL : Nat} {ls : Array Slot} {rest : List Value}
variable {D : va_G} {dA dL : ClassId} {ad : Nat → Nat} {A : Nat → Prop} {H0 : Heap} {cn qq : Nat} {mq fq sn : Nat → Nat}
set_option maxRecDepth 100000 in
theorem mcL_founder (hC : pp_CX p m c cc nL s args R_law D dA dL) (hw : pp_IM D dA dL ad A H0 cn qq mq fq sn H locs) (hcn : cn ≤ 7) (hR : pp_RM R cells slots 2 43) (hsz : ls.size = nL) (hrest : (rest.map fun v => v.category).sum ≤ 8) (hdg : decode cc pc = .ok (.invokevirtual 17, 3)) (kk : ∀ (r : Int32) (u : Nat × (Nat → Nat) × (Nat → Nat) × (Nat → Nat)) (H1 : Heap) (locs1 : List Loc), (fun (z0 : Int32) (u : Nat × (Nat → Nat) × (Nat → Nat) × (Nat → Nat)) => (z0, u) = pp_fadd cn mq fq sn 0 0) r u → pp_IM D dA dL ad A H0 (u.1) qq (u.2.1) (u.2.2.1) (u.2.2.2) H1 locs1 → (∀ q : Nat, q < H.size → ¬ pp_AM ad q → H1[q]? = H[q]?) → W p l e R s m args below meth c H1 locs1 cells slots Q (F0 m (pc + 3) ls (.int r :: rest))) : W p l e R s m args below meth c H locs cells slots Q (F0 m pc ls (.ref (ad 0) :: rest)) := pp_cQ_i (n := 0) (F := fun (u : Nat × (Nat → Nat) × (Nat → Nat) × (Nat → Nat)) => pp_WM dA dL ad (u.1) qq (u.2.1) (u.2.2.1) (u.2.2.2)) hC hw.1 hw.2.1 hw.2.2 (mM_founder l D dA dL ad cn qq mq fq sn hcn) (pp_D_all hw.2.1 rfl) (lw_V q230 q231 q232 q31 q233) (by decide +kernel) rfl rfl rfl hR (va_recv hC.2 hw.1 (ci := 1) (q0 := 0) rfl rfl) hsz hrest hdg rfl (fun r u H1 l1 h hP hS hk => kk r u H1 l1 h ⟨hP, pp_D_addr hw.2.1 rfl, hS⟩ hk)
end PC_M_founder
set_option maxHeartbeats 4000000 in
set_option maxRecDepth 100000 in
theorem mM_child (l : Launch) (D : va_G) (dA dL : ClassId) (ad : Nat → Nat) (cn qq : Nat) (mq fq sn : Nat → Nat) (x : Int32) (y : Int32) (hcn : cn ≤ 7) : Met l yX1_child (ws_ yX1_child cX1_child 3 (some .int)) ({ frames := 1, cells := 0, slots := 0, locals := 23 } : Room) (pp_Pc D dA dL (pp_WM dA dL ad cn qq mq fq sn) [.ref (ad 0), .int x, .int y]) (va_Qi (fun (z0 : Int32) (u : Nat × (Nat → Nat) × (Nat → Nat) × (Nat → Nat)) => (z0, u) = pp_fchild cn mq fq sn x y) (fun u t => va_P D vwCl ((fun (u : Nat × (Nat → Nat) × (Nat → Nat) × (Nat → Nat)) => pp_WM dA dL ad (u.1) qq (u.2.1) (u.2.2.1) (u.2.2.2)) u) t.heap) (pp_AM ad)) 0 0 (pp_AM ad) := by
  refine pp_ofM (by decide) rfl (Nat.le_of_ble_eq_true rfl) ?_
  intro p e s m below meth c ls hC hr hlocks hw hl
  have hx := hC.1.1
  have hb := hC.1.2.1
  have hl : lv_has ls 3 [(0, .ref (ad 0)), (1, .int x), (2, .int y)] := hl
  have hR : pp_RM ({ frames := 1, cells := 0, slots := 0, locals := 23 } : Room) 0 0 1 23 := ⟨Nat.le_of_ble_eq_true rfl, Nat.le_of_ble_eq_true rfl, Nat.le_of_ble_eq_true rfl, Nat.le_of_ble_eq_true rfl⟩
  refine lv_aload_n hx hb dX1_child_0 rfl (lv_at hl 0 rfl) ?_
  refine lv_iload_n hx hb dX1_child_1 rfl (lv_at hl 1 rfl) ?_
  refine mc_isPerson  hC hw  (hR.le (by decide) (by decide)) hl.1 (Nat.le_of_ble_eq_true rfl) dX1_child_2 ?_
  refine nr_z_eq (tgt := 30) hx hb dX1_child_5 (by decide) (by omega) (fun h1 => ?_) (fun h1 => ?_)
  · refine lv_iconst (v := (-1)) hx hb dX1_child_30 (by decide) ?_
    exact pp_rQ_i (F := fun (u : Nat × (Nat → Nat) × (Nat → Nat) × (Nat → Nat)) => pp_WM dA dL ad (u.1) qq (u.2.1) (u.2.2.1) (u.2.2.2)) hx hb hr hlocks dX1_child_31 (cn, mq, fq, sn) (by show (_, _) = pp_fchild _ _ _ _ _ _; unfold pp_fchild; rw [if_neg]; rintro ⟨a, b, c⟩; first | omega | exact c h3) hw.1 hw.2.2
  · have h1 : pp_bad cn x = 0 := by have := pp_bad_lt cn x; omega
    refine lv_aload_n hx hb dX1_child_8 rfl (lv_at hl 0 rfl) ?_
    refine lv_iload_n hx hb dX1_child_9 rfl (lv_at hl 2 rfl) ?_
    refine mc_isPerson  hC hw  (hR.le (by decide) (by decide)) hl.1 (Nat.le_of_ble_eq_true rfl) dX1_child_10 ?_
    refine nr_z_eq (tgt := 30) hx hb dX1_child_13 (by decide) (by omega) (fun h2 => ?_) (fun h2 => ?_)
    · refine lv_iconst (v := (-1)) hx hb dX1_child_30 (by decide) ?_
      exact pp_rQ_i (F := fun (u : Nat × (Nat → Nat) × (Nat → Nat) × (Nat → Nat)) => pp_WM dA dL ad (u.1) qq (u.2.1) (u.2.2.1) (u.2.2.2)) hx hb hr hlocks dX1_child_31 (cn, mq, fq, sn) (by show (_, _) = pp_fchild _ _ _ _ _ _; unfold pp_fchild; rw [if_neg]; rintro ⟨a, b, c⟩; first | omega | exact c h3) hw.1 hw.2.2
    · have h2 : pp_bad cn y = 0 := by have := pp_bad_lt cn y; omega
      refine lv_iload_n hx hb dX1_child_16 rfl (lv_at hl 1 rfl) ?_
      refine lv_iload_n hx hb dX1_child_17 rfl (lv_at hl 2 rfl) ?_
      refine lv_icmp_eq (tgt := 30) hx hb dX1_child_18 (by decide) (fun h3 => ?_) (fun h3 => ?_)
      · refine lv_iconst (v := (-1)) hx hb dX1_child_30 (by decide) ?_
        exact pp_rQ_i (F := fun (u : Nat × (Nat → Nat) × (Nat → Nat) × (Nat → Nat)) => pp_WM dA dL ad (u.1) qq (u.2.1) (u.2.2.1) (u.2.2.2)) hx hb hr hlocks dX1_child_31 (cn, mq, fq, sn) (by show (_, _) = pp_fchild _ _ _ _ _ _; unfold pp_fchild; rw [if_neg]; rintro ⟨a, b, c⟩; first | omega | exact c h3) hw.1 hw.2.2
      · refine lv_aload_n hx hb dX1_child_21 rfl (lv_at hl 0 rfl) ?_
        refine lv_iload_n hx hb dX1_child_22 rfl (lv_at hl 1 rfl) ?_
        refine nr_top (y := (nI (pp_j x + 1) - 1)) ((pp_bad_0 h1 hcn).1.trans (pn_pr _)) ?_
        refine lv_iload_n hx hb dX1_child_23 rfl (lv_at hl 2 rfl) ?_
        refine nr_top (y := (nI (pp_j y + 1) - 1)) ((pp_bad_0 h2 hcn).1.trans (pn_pr _)) ?_
        refine mc_add hC hw hcn (hR.le (by decide) (by decide)) hl.1 (Nat.le_of_ble_eq_true rfl) dX1_child_24 (fun r u H locs hru hw hk => ?_)
        refine lv_goto (tgt := 31) hx hb dX1_child_27 (by decide) ?_
        exact pp_rQ_i (F := fun (u : Nat × (Nat → Nat) × (Nat → Nat) × (Nat → Nat)) => pp_WM dA dL ad (u.1) qq (u.2.1) (u.2.2.1) (u.2.2.2)) hx hb hr hlocks dX1_child_31 u (by show (_, _) = pp_fchild _ _ _ _ _ _; rw [pp_fchild, if_pos ⟨h1, h2, h3⟩]; exact hru) hw.1 hw.2.2
section PC_M_child
variable {p : Program} {l : Launch} {e : Env} {R : Room} {s : State} {m : MethodId} {args : Array Value} {below : List Frame} {meth : Method} {c : Code} {H : Heap} {locs : List Loc} {cells slots : Nat} {Q : State → Prop}
variable {cc : ByteArray} {pc nL : Nat} {ls : Array Slot} {rest : List Value}
variable {D : va_G} {dA dL : ClassId} {ad : Nat → Nat} {A : Nat → Prop} {H0 : Heap} {cn qq : Nat} {mq fq sn : Nat → Nat}
set_option maxRecDepth 100000 in
theorem mcL_child (hC : pp_CX p m c cc nL s args R_law D dA dL) (hw : pp_IM D dA dL ad A H0 cn qq mq fq sn H locs) {x : Int32} {y : Int32} (hcn : cn ≤ 7) (hR : pp_RM R cells slots 2 45) (hsz : ls.size = nL) (hrest : (rest.map fun v => v.category).sum ≤ 8) (hdg : decode cc pc = .ok (.invokevirtual 22, 3)) (kk : ∀ (r : Int32) (u : Nat × (Nat → Nat) × (Nat → Nat) × (Nat → Nat)) (H1 : Heap) (locs1 : List Loc), (fun (z0 : Int32) (u : Nat × (Nat → Nat) × (Nat → Nat) × (Nat → Nat)) => (z0, u) = pp_fchild cn mq fq sn x y) r u → pp_IM D dA dL ad A H0 (u.1) qq (u.2.1) (u.2.2.1) (u.2.2.2) H1 locs1 → (∀ q : Nat, q < H.size → ¬ pp_AM ad q → H1[q]? = H[q]?) → W p l e R s m args below meth c H1 locs1 cells slots Q (F0 m (pc + 3) ls (.int r :: rest))) : W p l e R s m args below meth c H locs cells slots Q (F0 m pc ls (.int y :: .int x :: .ref (ad 0) :: rest)) := pp_cQ_i (n := 2) (F := fun (u : Nat × (Nat → Nat) × (Nat → Nat) × (Nat → Nat)) => pp_WM dA dL ad (u.1) qq (u.2.1) (u.2.2.1) (u.2.2.2)) hC hw.1 hw.2.1 hw.2.2 (mM_child l D dA dL ad cn qq mq fq sn x y hcn) (pp_D_all hw.2.1 rfl) (lw_V q238 q239 q240 q31 q241) (by decide +kernel) rfl rfl rfl hR (va_recv hC.2 hw.1 (ci := 1) (q0 := 0) rfl rfl) hsz hrest hdg rfl (fun r u H1 l1 h hP hS hk => kk r u H1 l1 h ⟨hP, pp_D_addr hw.2.1 rfl, hS⟩ hk)
end PC_M_child
set_option maxHeartbeats 4000000 in
set_option maxRecDepth 100000 in
theorem mM_remove (l : Launch) (D : va_G) (dA dL : ClassId) (ad : Nat → Nat) (cn qq : Nat) (mq fq sn : Nat → Nat) (hcn : cn ≤ 7) : Met l yX1_remove (ws_ yX1_remove cX1_remove 1 (some .int)) ({ frames := 0, cells := 0, slots := 0, locals := 0 } : Room) (pp_Pc D dA dL (pp_WM dA dL ad cn qq mq fq sn) [.ref (ad 0)]) (va_Qi (fun (z0 : Int32) (u : Nat) => (z0, u) = pp_frem cn) (fun u t => va_P D vwCl ((fun (u : Nat) => pp_WM dA dL ad u qq mq fq sn) u) t.heap) (pp_AM ad)) 0 0 (pp_AM ad) := by
  refine pp_ofM (by decide) rfl (Nat.le_of_ble_eq_true rfl) ?_
  intro p e s m below meth c ls hC hr hlocks hw hl
  have hx := hC.1.1
  have hb := hC.1.2.1
  have hl : lv_has ls 1 [(0, .ref (ad 0))] := hl
  refine lv_aload_n hx hb dX1_remove_0 rfl (lv_at hl 0 rfl) ?_
  refine mg_cn hC hw dX1_remove_1 ?_
  refine nr_z_ne (tgt := 9) hx hb dX1_remove_4 (by decide) (by omega) (fun h1 => ?_) (fun h1 => ?_)
  · refine lv_aload_n hx hb dX1_remove_9 rfl (lv_at hl 0 rfl) ?_
    refine lv_dup hx hb dX1_remove_10 rfl ?_
    refine mg_cn hC hw dX1_remove_11 ?_
    refine lv_iconst (v := (nI 1)) hx hb dX1_remove_14 (by decide) ?_
    refine nr_sub hx hb (by omega) dX1_remove_15 ?_
    refine mp_cn hC hw dX1_remove_16 (fun H locs hw => ?_)
    refine lv_aload_n hx hb dX1_remove_19 rfl (lv_at hl 0 rfl) ?_
    refine mg_cn hC hw dX1_remove_20 ?_
    exact pp_rQ_i (F := fun (u : Nat) => pp_WM dA dL ad u qq mq fq sn) hx hb hr hlocks dX1_remove_23 (cn - 1) (by show (_, _) = pp_frem cn; rw [pp_frem, if_neg h1]) hw.1 hw.2.2
  · refine lv_iconst (v := (-1)) hx hb dX1_remove_7 (by decide) ?_
    exact pp_rQ_i (F := fun (u : Nat) => pp_WM dA dL ad u qq mq fq sn) hx hb hr hlocks dX1_remove_8 cn (by show (_, _) = pp_frem cn; rw [pp_frem, if_pos h1]) hw.1 hw.2.2
section PC_M_remove
variable {p : Program} {l : Launch} {e : Env} {R : Room} {s : State} {m : MethodId} {args : Array Value} {below : List Frame} {meth : Method} {c : Code} {H : Heap} {locs : List Loc} {cells slots : Nat} {Q : State → Prop}
variable {cc : ByteArray} {pc nL : Nat} {ls : Array Slot} {rest : List Value}
variable {D : va_G} {dA dL : ClassId} {ad : Nat → Nat} {A : Nat → Prop} {H0 : Heap} {cn qq : Nat} {mq fq sn : Nat → Nat}
set_option maxRecDepth 100000 in
theorem mcL_remove (hC : pp_CX p m c cc nL s args R_law D dA dL) (hw : pp_IM D dA dL ad A H0 cn qq mq fq sn H locs) (hcn : cn ≤ 7) (hR : pp_RM R cells slots 1 20) (hsz : ls.size = nL) (hrest : (rest.map fun v => v.category).sum ≤ 8) (hdg : decode cc pc = .ok (.invokevirtual 26, 3)) (kk : ∀ (r : Int32) (u : Nat) (H1 : Heap) (locs1 : List Loc), (fun (z0 : Int32) (u : Nat) => (z0, u) = pp_frem cn) r u → pp_IM D dA dL ad A H0 u qq mq fq sn H1 locs1 → (∀ q : Nat, q < H.size → ¬ pp_AM ad q → H1[q]? = H[q]?) → W p l e R s m args below meth c H1 locs1 cells slots Q (F0 m (pc + 3) ls (.int r :: rest))) : W p l e R s m args below meth c H locs cells slots Q (F0 m pc ls (.ref (ad 0) :: rest)) := pp_cQ_i (n := 0) (F := fun (u : Nat) => pp_WM dA dL ad u qq mq fq sn) hC hw.1 hw.2.1 hw.2.2 (mM_remove l D dA dL ad cn qq mq fq sn hcn) (pp_D_all hw.2.1 rfl) (lw_V q246 q247 q248 q31 q249) (by decide +kernel) rfl rfl rfl hR (va_recv hC.2 hw.1 (ci := 1) (q0 := 0) rfl rfl) hsz hrest hdg rfl (fun r u H1 l1 h hP hS hk => kk r u H1 l1 h ⟨hP, pp_D_addr hw.2.1 rfl, hS⟩ hk)
end PC_M_remove
set_option maxHeartbeats 4000000 in
set_option maxRecDepth 100000 in
theorem mM_persons (l : Launch) (D : va_G) (dA dL : ClassId) (ad : Nat → Nat) (cn qq : Nat) (mq fq sn : Nat → Nat)  : Met l yX1_persons (ws_ yX1_persons cX1_persons 1 (some .int)) ({ frames := 0, cells := 0, slots := 0, locals := 0 } : Room) (pp_Pc D dA dL (pp_WM dA dL ad cn qq mq fq sn) [.ref (ad 0)]) (vp_Si (fun z0 => z0 = (nI cn))) 0 0 (fun _ => False) := by
  refine pp_ofM (by decide) rfl (Nat.le_of_ble_eq_true rfl) ?_
  intro p e s m below meth c ls hC hr hlocks hw hl
  have hx := hC.1.1
  have hb := hC.1.2.1
  have hl : lv_has ls 1 [(0, .ref (ad 0))] := hl
  refine lv_aload_n hx hb dX1_persons_0 rfl (lv_at hl 0 rfl) ?_
  refine mg_cn hC hw dX1_persons_1 ?_
  exact pp_rS_i hx hb hr hlocks dX1_persons_4 rfl
section PC_M_persons
variable {p : Program} {l : Launch} {e : Env} {R : Room} {s : State} {m : MethodId} {args : Array Value} {below : List Frame} {meth : Method} {c : Code} {H : Heap} {locs : List Loc} {cells slots : Nat} {Q : State → Prop}
variable {cc : ByteArray} {pc nL : Nat} {ls : Array Slot} {rest : List Value}
variable {D : va_G} {dA dL : ClassId} {ad : Nat → Nat} {A : Nat → Prop} {H0 : Heap} {cn qq : Nat} {mq fq sn : Nat → Nat}
set_option maxRecDepth 100000 in
theorem mcL_persons (hC : pp_CX p m c cc nL s args R_law D dA dL) (hw : pp_IM D dA dL ad A H0 cn qq mq fq sn H locs)  (hR : pp_RM R cells slots 1 20) (hsz : ls.size = nL) (hrest : (rest.map fun v => v.category).sum ≤ 8) (hdg : decode cc pc = .ok (.invokevirtual 30, 3)) (kk : W p l e R s m args below meth c H locs cells slots Q (F0 m (pc + 3) ls (.int (nI cn) :: rest))) : W p l e R s m args below meth c H locs cells slots Q (F0 m pc ls (.ref (ad 0) :: rest)) := pp_cS_i (n := 0) hC hw.1 hw.2.1 (mM_persons l D dA dL ad cn qq mq fq sn ) (lw_V q250 q251 q252 q31 q253) (by decide +kernel) rfl rfl rfl hR (va_recv hC.2 hw.1 (ci := 1) (q0 := 0) rfl rfl) hsz hrest hdg rfl (fun r h => by rw [h]; exact kk)
end PC_M_persons
set_option maxHeartbeats 4000000 in
set_option maxRecDepth 100000 in
theorem mM_frequency (l : Launch) (D : va_G) (dA dL : ClassId) (ad : Nat → Nat) (cn qq : Nat) (mq fq sn : Nat → Nat) (x : Int32) : Met l yX1_frequency (ws_ yX1_frequency cX1_frequency 3 (some .int)) ({ frames := 0, cells := 0, slots := 0, locals := 0 } : Room) (pp_Pc D dA dL (pp_WM dA dL ad cn qq mq fq sn) [.ref (ad 0), .int x]) (va_Qi (fun (z0 : Int32) (u : Nat) => (z0, u) = pp_ffreq qq x) (fun u t => va_P D vwCl ((fun (u : Nat) => pp_WM dA dL ad cn u mq fq sn) u) t.heap) (pp_AM ad)) 0 0 (pp_AM ad) := by
  refine pp_ofM (by decide) rfl (Nat.le_of_ble_eq_true rfl) ?_
  intro p e s m below meth c ls hC hr hlocks hw hl
  have hx := hC.1.1
  have hb := hC.1.2.1
  have hl : lv_has ls 3 [(0, .ref (ad 0)), (1, .int x)] := hl
  refine lv_iload_n hx hb dX1_frequency_0 rfl (lv_at hl 1 rfl) ?_
  refine lv_if_lt (tgt := 10) hx hb dX1_frequency_1 (by decide) (fun h1 => ?_) (fun h1 => ?_)
  · refine lv_iconst (v := (-1)) hx hb dX1_frequency_10 (by decide) ?_
    exact pp_rQ_i (F := fun (u : Nat) => pp_WM dA dL ad cn u mq fq sn) hx hb hr hlocks dX1_frequency_11 qq (by show (_, _) = pp_ffreq qq x; unfold pp_ffreq; rw [if_neg]; rintro ⟨a, b⟩; first | exact a h1 | exact h2 b) hw.1 hw.2.2
  · refine lv_iload_n hx hb dX1_frequency_4 rfl (lv_at hl 1 rfl) ?_
    refine lv_bipush (v := (nI 16)) hx hb dX1_frequency_5 (by decide) ?_
    refine lv_icmp_le (tgt := 12) hx hb dX1_frequency_7 (by decide) (fun h2 => ?_) (fun h2 => ?_)
    · refine lv_aload_n hx hb dX1_frequency_12 rfl (lv_at hl 0 rfl) ?_
      refine mg_qq hC hw dX1_frequency_13 ?_
      refine lv_istore_n (lv' := [(2, .int (nI qq)), (0, .ref (ad 0)), (1, .int x)]) hx hb dX1_frequency_16 rfl hl (by decide) rfl (fun ls hl => ?_)
      refine lv_aload_n hx hb dX1_frequency_17 rfl (lv_at hl 1 rfl) ?_
      refine lv_iload_n hx hb dX1_frequency_18 rfl (lv_at hl 2 rfl) ?_
      refine nr_top (y := (nI (pp_j x))) (pp_jI h1) ?_
      refine mp_qq hC hw dX1_frequency_19 (fun H locs hw => ?_)
      refine lv_iload_n hx hb dX1_frequency_22 rfl (lv_at hl 0 rfl) ?_
      exact pp_rQ_i (F := fun (u : Nat) => pp_WM dA dL ad cn u mq fq sn) hx hb hr hlocks dX1_frequency_23 (pp_j x) (by show (_, _) = pp_ffreq qq x; rw [pp_ffreq, if_pos ⟨h1, h2⟩]) hw.1 hw.2.2
    · refine lv_iconst (v := (-1)) hx hb dX1_frequency_10 (by decide) ?_
      exact pp_rQ_i (F := fun (u : Nat) => pp_WM dA dL ad cn u mq fq sn) hx hb hr hlocks dX1_frequency_11 qq (by show (_, _) = pp_ffreq qq x; unfold pp_ffreq; rw [if_neg]; rintro ⟨a, b⟩; first | exact a h1 | exact h2 b) hw.1 hw.2.2
section PC_M_frequency
variable {p : Program} {l : Launch} {e : Env} {R : Room} {s : State} {m : MethodId} {args : Array Value} {below : List Frame} {meth : Method} {c : Code} {H : Heap} {locs : List Loc} {cells slots : Nat} {Q : State → Prop}
variable {cc : ByteArray} {pc nL : Nat} {ls : Array Slot} {rest : List Value}
variable {D : va_G} {dA dL : ClassId} {ad : Nat → Nat} {A : Nat → Prop} {H0 : Heap} {cn qq : Nat} {mq fq sn : Nat → Nat}
set_option maxRecDepth 100000 in
theorem mcL_frequency (hC : pp_CX p m c cc nL s args R_law D dA dL) (hw : pp_IM D dA dL ad A H0 cn qq mq fq sn H locs) {x : Int32} (hR : pp_RM R cells slots 1 22) (hsz : ls.size = nL) (hrest : (rest.map fun v => v.category).sum ≤ 8) (hdg : decode cc pc = .ok (.invokevirtual 35, 3)) (kk : ∀ (r : Int32) (u : Nat) (H1 : Heap) (locs1 : List Loc), (fun (z0 : Int32) (u : Nat) => (z0, u) = pp_ffreq qq x) r u → pp_IM D dA dL ad A H0 cn u mq fq sn H1 locs1 → (∀ q : Nat, q < H.size → ¬ pp_AM ad q → H1[q]? = H[q]?) → W p l e R s m args below meth c H1 locs1 cells slots Q (F0 m (pc + 3) ls (.int r :: rest))) : W p l e R s m args below meth c H locs cells slots Q (F0 m pc ls (.int x :: .ref (ad 0) :: rest)) := pp_cQ_i (n := 1) (F := fun (u : Nat) => pp_WM dA dL ad cn u mq fq sn) hC hw.1 hw.2.1 hw.2.2 (mM_frequency l D dA dL ad cn qq mq fq sn x) (pp_D_all hw.2.1 rfl) (lw_V q254 q255 q256 q31 q257) (by decide +kernel) rfl rfl rfl hR (va_recv hC.2 hw.1 (ci := 1) (q0 := 0) rfl rfl) hsz hrest hdg rfl (fun r u H1 l1 h hP hS hk => kk r u H1 l1 h ⟨hP, pp_D_addr hw.2.1 rfl, hS⟩ hk)
end PC_M_frequency
set_option maxHeartbeats 4000000 in
set_option maxRecDepth 100000 in
theorem mM_see (l : Launch) (D : va_G) (dA dL : ClassId) (ad : Nat → Nat) (cn qq : Nat) (mq fq sn : Nat → Nat) (x : Int32) (y : Int32) (z : Int32) (hcn : cn ≤ 7) : Met l yX1_see (ws_ yX1_see cX1_see 5 (some .int)) ({ frames := 1, cells := 0, slots := 0, locals := 23 } : Room) (pp_Pc D dA dL (pp_WM dA dL ad cn qq mq fq sn) [.ref (ad 0), .int x, .int y, .int z]) (va_Qi (fun (z0 : Int32) (u : Nat → Nat) => (z0, u) = pp_fsee cn sn x y z) (fun u t => va_P D vwCl ((fun (u : Nat → Nat) => pp_WM dA dL ad cn qq mq fq u) u) t.heap) (pp_AM ad)) 0 0 (pp_AM ad) := by
  refine pp_ofM (by decide) rfl (Nat.le_of_ble_eq_true rfl) ?_
  intro p e s m below meth c ls hC hr hlocks hw hl
  have hx := hC.1.1
  have hb := hC.1.2.1
  have hl : lv_has ls 5 [(0, .ref (ad 0)), (1, .int x), (2, .int y), (3, .int z)] := hl
  have hR : pp_RM ({ frames := 1, cells := 0, slots := 0, locals := 23 } : Room) 0 0 1 23 := ⟨Nat.le_of_ble_eq_true rfl, Nat.le_of_ble_eq_true rfl, Nat.le_of_ble_eq_true rfl, Nat.le_of_ble_eq_true rfl⟩
  refine lv_aload_n hx hb dX1_see_0 rfl (lv_at hl 0 rfl) ?_
  refine lv_iload_n hx hb dX1_see_1 rfl (lv_at hl 1 rfl) ?_
  refine mc_isPerson  hC hw  (hR.le (by decide) (by decide)) hl.1 (Nat.le_of_ble_eq_true rfl) dX1_see_2 ?_
  refine nr_z_eq (tgt := 25) hx hb dX1_see_5 (by decide) (by omega) (fun h1 => ?_) (fun h1 => ?_)
  · refine lv_iconst (v := (-1)) hx hb dX1_see_25 (by decide) ?_
    exact pp_rQ_i (F := fun (u : Nat → Nat) => pp_WM dA dL ad cn qq mq fq u) hx hb hr hlocks dX1_see_26 sn (by show (_, _) = pp_fsee _ _ _ _ _; unfold pp_fsee; rw [if_neg]; rintro ⟨a, b, c, d⟩; first | omega | exact c h3 | exact h4 d) hw.1 hw.2.2
  · have h1 : pp_bad cn x = 0 := by have := pp_bad_lt cn x; omega
    refine lv_aload_n hx hb dX1_see_8 rfl (lv_at hl 0 rfl) ?_
    refine lv_iload_n hx hb dX1_see_9 rfl (lv_at hl 2 rfl) ?_
    refine mc_isGenotype  hC hw  (hR.le (by decide) (by decide)) hl.1 (Nat.le_of_ble_eq_true rfl) dX1_see_10 ?_
    refine nr_z_eq (tgt := 25) hx hb dX1_see_13 (by decide) (by omega) (fun h2 => ?_) (fun h2 => ?_)
    · refine lv_iconst (v := (-1)) hx hb dX1_see_25 (by decide) ?_
      exact pp_rQ_i (F := fun (u : Nat → Nat) => pp_WM dA dL ad cn qq mq fq u) hx hb hr hlocks dX1_see_26 sn (by show (_, _) = pp_fsee _ _ _ _ _; unfold pp_fsee; rw [if_neg]; rintro ⟨a, b, c, d⟩; first | omega | exact c h3 | exact h4 d) hw.1 hw.2.2
    · have h2 : pp_bdg y = 0 := by have := pp_bdg_lt y; omega
      refine lv_iload_n hx hb dX1_see_16 rfl (lv_at hl 3 rfl) ?_
      refine lv_if_lt (tgt := 25) hx hb dX1_see_17 (by decide) (fun h3 => ?_) (fun h3 => ?_)
      · refine lv_iconst (v := (-1)) hx hb dX1_see_25 (by decide) ?_
        exact pp_rQ_i (F := fun (u : Nat → Nat) => pp_WM dA dL ad cn qq mq fq u) hx hb hr hlocks dX1_see_26 sn (by show (_, _) = pp_fsee _ _ _ _ _; unfold pp_fsee; rw [if_neg]; rintro ⟨a, b, c, d⟩; first | omega | exact c h3 | exact h4 d) hw.1 hw.2.2
      · refine lv_iload_n hx hb dX1_see_20 rfl (lv_at hl 3 rfl) ?_
        refine lv_iconst (v := (nI 5)) hx hb dX1_see_21 (by decide) ?_
        refine lv_icmp_le (tgt := 27) hx hb dX1_see_22 (by decide) (fun h4 => ?_) (fun h4 => ?_)
        · refine lv_aload_n hx hb dX1_see_27 rfl (lv_at hl 0 rfl) ?_
          refine mg_sn hC hw dX1_see_28 ?_
          refine lv_iconst (v := (nI 3)) hx hb dX1_see_31 (by decide) ?_
          refine lv_iload_n hx hb dX1_see_32 rfl (lv_at hl 1 rfl) ?_
          refine nr_top (y := (nI (pp_j x))) (pp_bad_0 h1 hcn).1 ?_
          refine nr_mul hx hb dX1_see_33 ?_
          refine lv_iload_n hx hb dX1_see_34 rfl (lv_at hl 2 rfl) ?_
          refine nr_top (y := (nI (pp_j y))) (pp_bdg_0 h2).1 ?_
          refine nr_add hx hb dX1_see_35 ?_
          refine ml_sn hC hw (by have := (pp_bad_0 h1 hcn).2; have := (pp_bdg_0 h2).2; omega) dX1_see_36 ?_
          refine lv_istore (lv' := [(4, .int (nI (sn ((3 * (pp_j x)) + (pp_j y))))), (0, .ref (ad 0)), (1, .int x), (2, .int y), (3, .int z)]) hx hb dX1_see_37 hl (by decide) rfl (fun ls hl => ?_)
          refine lv_aload_n hx hb dX1_see_39 rfl (lv_at hl 1 rfl) ?_
          refine mg_sn hC hw dX1_see_40 ?_
          refine lv_iconst (v := (nI 3)) hx hb dX1_see_43 (by decide) ?_
          refine lv_iload_n hx hb dX1_see_44 rfl (lv_at hl 2 rfl) ?_
          refine nr_top (y := (nI (pp_j x))) (pp_bad_0 h1 hcn).1 ?_
          refine nr_mul hx hb dX1_see_45 ?_
          refine lv_iload_n hx hb dX1_see_46 rfl (lv_at hl 3 rfl) ?_
          refine nr_top (y := (nI (pp_j y))) (pp_bdg_0 h2).1 ?_
          refine nr_add hx hb dX1_see_47 ?_
          refine lv_iload_n hx hb dX1_see_48 rfl (lv_at hl 4 rfl) ?_
          refine nr_top (y := (nI (pp_j z))) (pp_jI h3) ?_
          refine ms_sn hC hw (by have := (pp_bad_0 h1 hcn).2; have := (pp_bdg_0 h2).2; omega) dX1_see_49 (fun H locs hw => ?_)
          refine lv_iload hx hb dX1_see_50 (lv_at hl 0 rfl) ?_
          exact pp_rQ_i (F := fun (u : Nat → Nat) => pp_WM dA dL ad cn qq mq fq u) hx hb hr hlocks dX1_see_52 (va_up sn (3 * pp_j x + pp_j y) (pp_j z)) (by show (_, _) = pp_fsee _ _ _ _ _; rw [pp_fsee, if_pos ⟨h1, h2, h3, h4⟩]) hw.1 hw.2.2
        · refine lv_iconst (v := (-1)) hx hb dX1_see_25 (by decide) ?_
          exact pp_rQ_i (F := fun (u : Nat → Nat) => pp_WM dA dL ad cn qq mq fq u) hx hb hr hlocks dX1_see_26 sn (by show (_, _) = pp_fsee _ _ _ _ _; unfold pp_fsee; rw [if_neg]; rintro ⟨a, b, c, d⟩; first | omega | exact c h3 | exact h4 d) hw.1 hw.2.2
section PC_M_see
variable {p : Program} {l : Launch} {e : Env} {R : Room} {s : State} {m : MethodId} {args : Array Value} {below : List Frame} {meth : Method} {c : Code} {H : Heap} {locs : List Loc} {cells slots : Nat} {Q : State → Prop}
variable {cc : ByteArray} {pc nL : Nat} {ls : Array Slot} {rest : List Value}
variable {D : va_G} {dA dL : ClassId} {ad : Nat → Nat} {A : Nat → Prop} {H0 : Heap} {cn qq : Nat} {mq fq sn : Nat → Nat}
set_option maxRecDepth 100000 in
theorem mcL_see (hC : pp_CX p m c cc nL s args R_law D dA dL) (hw : pp_IM D dA dL ad A H0 cn qq mq fq sn H locs) {x : Int32} {y : Int32} {z : Int32} (hcn : cn ≤ 7) (hR : pp_RM R cells slots 2 47) (hsz : ls.size = nL) (hrest : (rest.map fun v => v.category).sum ≤ 8) (hdg : decode cc pc = .ok (.invokevirtual 40, 3)) (kk : ∀ (r : Int32) (u : Nat → Nat) (H1 : Heap) (locs1 : List Loc), (fun (z0 : Int32) (u : Nat → Nat) => (z0, u) = pp_fsee cn sn x y z) r u → pp_IM D dA dL ad A H0 cn qq mq fq u H1 locs1 → (∀ q : Nat, q < H.size → ¬ pp_AM ad q → H1[q]? = H[q]?) → W p l e R s m args below meth c H1 locs1 cells slots Q (F0 m (pc + 3) ls (.int r :: rest))) : W p l e R s m args below meth c H locs cells slots Q (F0 m pc ls (.int z :: .int y :: .int x :: .ref (ad 0) :: rest)) := pp_cQ_i (n := 3) (F := fun (u : Nat → Nat) => pp_WM dA dL ad cn qq mq fq u) hC hw.1 hw.2.1 hw.2.2 (mM_see l D dA dL ad cn qq mq fq sn x y z hcn) (pp_D_all hw.2.1 rfl) (lw_V q258 q259 q260 q31 q261) (by decide +kernel) rfl rfl rfl hR (va_recv hC.2 hw.1 (ci := 1) (q0 := 0) rfl rfl) hsz hrest hdg rfl (fun r u H1 l1 h hP hS hk => kk r u H1 l1 h ⟨hP, pp_D_addr hw.2.1 rfl, hS⟩ hk)
end PC_M_see
set_option maxHeartbeats 4000000 in
set_option maxRecDepth 100000 in
theorem mM_seen (l : Launch) (D : va_G) (dA dL : ClassId) (ad : Nat → Nat) (cn qq : Nat) (mq fq sn : Nat → Nat) (x : Int32) (y : Int32) (hcn : cn ≤ 7) : Met l yX1_seen (ws_ yX1_seen cX1_seen 3 (some .int)) ({ frames := 1, cells := 0, slots := 0, locals := 23 } : Room) (pp_Pc D dA dL (pp_WM dA dL ad cn qq mq fq sn) [.ref (ad 0), .int x, .int y]) (vp_Si (fun z0 => z0 = (pp_fseen cn sn x y))) 0 0 (fun _ => False) := by
  refine pp_ofM (by decide) rfl (Nat.le_of_ble_eq_true rfl) ?_
  intro p e s m below meth c ls hC hr hlocks hw hl
  have hx := hC.1.1
  have hb := hC.1.2.1
  have hl : lv_has ls 3 [(0, .ref (ad 0)), (1, .int x), (2, .int y)] := hl
  have hR : pp_RM ({ frames := 1, cells := 0, slots := 0, locals := 23 } : Room) 0 0 1 23 := ⟨Nat.le_of_ble_eq_true rfl, Nat.le_of_ble_eq_true rfl, Nat.le_of_ble_eq_true rfl, Nat.le_of_ble_eq_true rfl⟩
  refine lv_aload_n hx hb dX1_seen_0 rfl (lv_at hl 0 rfl) ?_
  refine lv_iload_n hx hb dX1_seen_1 rfl (lv_at hl 1 rfl) ?_
  refine mc_isPerson  hC hw  (hR.le (by decide) (by decide)) hl.1 (Nat.le_of_ble_eq_true rfl) dX1_seen_2 ?_
  refine nr_z_eq (tgt := 29) hx hb dX1_seen_5 (by decide) (by omega) (fun h1 => ?_) (fun h1 => ?_)
  · refine lv_iconst (v := (-1)) hx hb dX1_seen_29 (by decide) ?_
    exact pp_rS_i hx hb hr hlocks dX1_seen_30 (by unfold pp_fseen; rw [if_neg]; rintro ⟨a, b⟩; omega)
  · have h1 : pp_bad cn x = 0 := by have := pp_bad_lt cn x; omega
    refine lv_aload_n hx hb dX1_seen_8 rfl (lv_at hl 0 rfl) ?_
    refine lv_iload_n hx hb dX1_seen_9 rfl (lv_at hl 2 rfl) ?_
    refine mc_isGenotype  hC hw  (hR.le (by decide) (by decide)) hl.1 (Nat.le_of_ble_eq_true rfl) dX1_seen_10 ?_
    refine nr_z_eq (tgt := 29) hx hb dX1_seen_13 (by decide) (by omega) (fun h2 => ?_) (fun h2 => ?_)
    · refine lv_iconst (v := (-1)) hx hb dX1_seen_29 (by decide) ?_
      exact pp_rS_i hx hb hr hlocks dX1_seen_30 (by unfold pp_fseen; rw [if_neg]; rintro ⟨a, b⟩; omega)
    · have h2 : pp_bdg y = 0 := by have := pp_bdg_lt y; omega
      refine lv_aload_n hx hb dX1_seen_16 rfl (lv_at hl 0 rfl) ?_
      refine mg_sn hC hw dX1_seen_17 ?_
      refine lv_iconst (v := (nI 3)) hx hb dX1_seen_20 (by decide) ?_
      refine lv_iload_n hx hb dX1_seen_21 rfl (lv_at hl 1 rfl) ?_
      refine nr_top (y := (nI (pp_j x))) (pp_bad_0 h1 hcn).1 ?_
      refine nr_mul hx hb dX1_seen_22 ?_
      refine lv_iload_n hx hb dX1_seen_23 rfl (lv_at hl 2 rfl) ?_
      refine nr_top (y := (nI (pp_j y))) (pp_bdg_0 h2).1 ?_
      refine nr_add hx hb dX1_seen_24 ?_
      refine ml_sn hC hw (by have := (pp_bad_0 h1 hcn).2; have := (pp_bdg_0 h2).2; omega) dX1_seen_25 ?_
      refine lv_goto (tgt := 30) hx hb dX1_seen_26 (by decide) ?_
      exact pp_rS_i hx hb hr hlocks dX1_seen_30 (by rw [pp_fseen, if_pos ⟨h1, h2⟩])
section PC_M_seen
variable {p : Program} {l : Launch} {e : Env} {R : Room} {s : State} {m : MethodId} {args : Array Value} {below : List Frame} {meth : Method} {c : Code} {H : Heap} {locs : List Loc} {cells slots : Nat} {Q : State → Prop}
variable {cc : ByteArray} {pc nL : Nat} {ls : Array Slot} {rest : List Value}
variable {D : va_G} {dA dL : ClassId} {ad : Nat → Nat} {A : Nat → Prop} {H0 : Heap} {cn qq : Nat} {mq fq sn : Nat → Nat}
set_option maxRecDepth 100000 in
theorem mcL_seen (hC : pp_CX p m c cc nL s args R_law D dA dL) (hw : pp_IM D dA dL ad A H0 cn qq mq fq sn H locs) {x : Int32} {y : Int32} (hcn : cn ≤ 7) (hR : pp_RM R cells slots 2 45) (hsz : ls.size = nL) (hrest : (rest.map fun v => v.category).sum ≤ 8) (hdg : decode cc pc = .ok (.invokevirtual 44, 3)) (kk : W p l e R s m args below meth c H locs cells slots Q (F0 m (pc + 3) ls (.int (pp_fseen cn sn x y) :: rest))) : W p l e R s m args below meth c H locs cells slots Q (F0 m pc ls (.int y :: .int x :: .ref (ad 0) :: rest)) := pp_cS_i (n := 2) hC hw.1 hw.2.1 (mM_seen l D dA dL ad cn qq mq fq sn x y hcn) (lw_V q266 q267 q268 q31 q269) (by decide +kernel) rfl rfl rfl hR (va_recv hC.2 hw.1 (ci := 1) (q0 := 0) rfl rfl) hsz hrest hdg rfl (fun r h => by rw [h]; exact kk)
end PC_M_seen
end
section
/-! the two answers are one: sums over numbers and over assignments -/
theorem pp_msum_add (f : Nat → Int64) (a : Nat) : ∀ b, pp_msum f (a + b) = pp_msum f a + pp_msum (fun i => f (a + i)) b
  | 0 => by rw [Nat.add_zero, pp_msum.eq_1 (fun i => f (a + i)), Int64.add_zero]
  | b + 1 => by
    rw [← Nat.add_assoc, pp_msum, pp_msum, pp_msum_add f a b, Int64.add_assoc]
theorem pp_msum_congr {f g : Nat → Int64} : ∀ n, (∀ i, i < n → f i = g i) → pp_msum f n = pp_msum g n
  | 0, _ => rfl
  | n + 1, h => by rw [pp_msum, pp_msum, pp_msum_congr n (fun i hi => h i (by omega)), h n (by omega)]
theorem pp_dig_up (c n d : Nat) (hd : d < 3) : pp_dig ((3 * c + d) * 3 ^ n) = va_up (pp_dig (c * 3 ^ (n + 1))) n d := by
  funext q
  rcases Nat.lt_trichotomy q n with h | h | h
  · rw [pp_up_ne _ _ (by omega)]
    obtain ⟨m, rfl⟩ : ∃ m, n = q + (m + 1) := ⟨n - q - 1, by omega⟩
    unfold pp_dig
    have e1 : (3 * c + d) * 3 ^ (q + (m + 1)) = ((3 * c + d) * 3 ^ m * 3) * 3 ^ q := by
      rw [Nat.pow_add, Nat.pow_succ, Nat.mul_comm (3 ^ q), Nat.mul_assoc, Nat.mul_assoc, Nat.mul_assoc]
    have e2 : c * 3 ^ (q + (m + 1) + 1) = (c * 3 ^ (m + 1) * 3) * 3 ^ q := by
      rw [show q + (m + 1) + 1 = q + (m + 1 + 1) by omega, Nat.pow_add, Nat.pow_succ 3 (m + 1), Nat.mul_comm (3 ^ q), Nat.mul_assoc, Nat.mul_assoc, Nat.mul_assoc]
    have hp : 0 < 3 ^ q := Nat.pow_pos (by decide)
    rw [e1, e2, Nat.mul_div_cancel _ hp, Nat.mul_div_cancel _ hp, Nat.mul_mod_left, Nat.mul_mod_left]
  · subst h
    rw [pp_up_self]
    unfold pp_dig
    rw [Nat.mul_div_cancel _ (Nat.pow_pos (by decide))]
    omega
  · rw [pp_up_ne _ _ (by omega)]
    obtain ⟨m, rfl⟩ : ∃ m, q = n + (m + 1) := ⟨q - n - 1, by omega⟩
    unfold pp_dig
    have hp : 0 < 3 ^ n := Nat.pow_pos (by decide)
    have e1 : 3 ^ (n + (m + 1)) = 3 * 3 ^ m * 3 ^ n := by
      rw [Nat.pow_add, Nat.pow_succ, Nat.mul_comm (3 ^ n), Nat.mul_comm (3 ^ m)]
    have e2 : c * 3 ^ (n + 1) = (3 * c) * 3 ^ n := by
      rw [Nat.pow_succ, Nat.mul_comm (3 ^ n), ← Nat.mul_assoc, Nat.mul_comm c 3]
    rw [e1, e2, Nat.mul_div_mul_right _ _ hp, Nat.mul_div_mul_right _ _ hp, ← Nat.div_div_eq_div_mul, ← Nat.div_div_eq_div_mul, show (3 * c + d) / 3 = c by omega, show 3 * c / 3 = c by omega]
theorem pp_msum_sum0 {L : Nat} (F : (Nat → Nat) → Int64) : ∀ n c, (∀ q, q < n → pp_bt L q = 1) → pp_msum (fun i => F (pp_dig (c * 3 ^ n + i))) (3 ^ n) = pp_sum L n F (pp_dig (c * 3 ^ n))
  | 0, c, _ => by
    show (0 : Int64) + F (pp_dig (c * 3 ^ 0 + 0)) = F (pp_dig (c * 3 ^ 0))
    rw [Int64.zero_add, Nat.add_zero]
  | n + 1, c, h => by
    have ih := fun c => pp_msum_sum0 (L := L) F n c (fun q hq => h q (by omega))
    rw [pp_sum, if_pos (h n (by omega)), ← pp_dig_up c n 0 (by decide), ← pp_dig_up c n 1 (by decide), ← pp_dig_up c n 2 (by decide), ← ih, ← ih, ← ih]
    have e3 : 3 ^ (n + 1) = 3 ^ n + 3 ^ n + 3 ^ n := by rw [Nat.pow_succ]; omega
    have e0 : c * (3 ^ n + 3 ^ n + 3 ^ n) = (3 * c + 0) * 3 ^ n := by
      rw [Nat.mul_add, Nat.mul_add, Nat.add_zero, Nat.mul_assoc]; omega
    rw [e3, pp_msum_add, pp_msum_add, e0]
    have k1 : ∀ i, (3 * c + 0) * 3 ^ n + (3 ^ n + i) = (3 * c + 1) * 3 ^ n + i := fun i => by
      rw [Nat.add_mul, Nat.add_mul]; omega
    have k2 : ∀ i, (3 * c + 0) * 3 ^ n + (3 ^ n + 3 ^ n + i) = (3 * c + 2) * 3 ^ n + i := fun i => by
      rw [Nat.add_mul, Nat.add_mul]; omega
    congr 1
    · congr 1
      refine pp_msum_congr _ (fun i _ => ?_)
      show F (pp_dig _) = F (pp_dig _)
      rw [k1]
    · refine pp_msum_congr _ (fun i _ => ?_)
      show F (pp_dig _) = F (pp_dig _)
      rw [k2]
theorem pp_dig_0 : pp_dig 0 = fun _ => 0 := by
  funext q
  unfold pp_dig
  rw [Nat.zero_div]
theorem pp_msum_sum (n : Nat) (F : (Nat → Nat) → Int64) : pp_msum (fun i => F (pp_dig i)) (3 ^ n) = pp_sum (2 ^ n - 1) n F (fun _ => 0) := by
  have h := pp_msum_sum0 (L := 2 ^ n - 1) F n 0 (fun q hq => (pp_full_bt n q).mpr hq)
  rw [Nat.zero_mul, pp_dig_0] at h
  rw [← h]
  refine pp_msum_congr _ (fun i _ => ?_)
  show F (pp_dig i) = F (pp_dig (0 + i))
  rw [Nat.zero_add]
theorem pp_bt_and (S T p : Nat) : pp_bt (S &&& T) p = 1 ↔ pp_bt S p = 1 ∧ pp_bt T p = 1 := by
  rw [pp_bt_tb, pp_bt_tb, pp_bt_tb, Nat.testBit_and, Bool.and_eq_true]
theorem pp_bt_7 : ∀ g, g < 3 → pp_bt 7 g = 1 := by decide
theorem pp_bt_n1 {S p : Nat} (h : ¬ pp_bt S p = 1) : pp_bt S p = 0 := by have := pp_bt_lt S p; omega
theorem pp_prod_0 {f : Nat → Int64} {t : Nat} (h : f t = 0) : ∀ n, t < n → pp_prod f n = 0
  | 0, ht => absurd ht (by omega)
  | n + 1, ht => by
    rw [pp_prod]
    by_cases e : t = n
    · subst e; rw [h, Int64.mul_zero]
    · rw [pp_prod_0 h n (by omega), Int64.zero_mul]
theorem pp_prod_1 {f : Nat → Int64} : ∀ n, (∀ t, t < n → f t = 1) → pp_prod f n = 1
  | 0, _ => rfl
  | n + 1, h => by rw [pp_prod, pp_prod_1 n (fun t ht => h t (by omega)), h n (by omega)]; rfl
section PEQ
variable {cn qq : Nat} {mq fq sn al : Nat → Nat}
theorem pp_xprod1 {a : Nat → Nat} (h : ∀ t, t < cn → pp_bt (al t) (a t) = 1) : pp_prod (fun t => pp_xf qq mq fq sn al 0 t a) cn = pp_wt cn qq mq fq sn a := by
  unfold pp_wt
  refine pp_prod_congr cn (fun t ht => ?_)
  show pp_xv _ _ _ _ = pp_lf _ _ _ _ _ _
  unfold pp_xv pp_lf
  rw [if_neg (by rw [h t ht]; decide), if_pos rfl]
theorem pp_xprod0 {a : Nat → Nat} {ow t : Nat} (ht : t < cn) (h : ¬ pp_bt (al t) (a t) = 1) : pp_prod (fun t => pp_xf qq mq fq sn al ow t a) cn = 0 := by
  refine pp_prod_0 (t := t) ?_ cn ht
  show pp_xv _ _ _ _ = 0
  unfold pp_xv
  rw [if_pos (pp_bt_n1 h)]
theorem pp_eq_lik : pp_xlik cn qq mq fq sn = pp_msum (pp_m1 cn qq mq fq sn) (3 ^ cn) := by
  unfold pp_xlik pp_tot
  rw [show pp_m1 cn qq mq fq sn = fun i => (fun a => pp_wt cn qq mq fq sn a) (pp_dig i) from rfl, pp_msum_sum]
  exact pp_sum_congr (fun a ha => pp_xprod1 (fun t _ => pp_bt_7 _ (ha t))) cn _ pp_G_0
theorem pp_two_prod {a : Nat → Nat} (ha : pp_G a) {j g r h : Nat} (hj : j < cn) (hr : r < cn) (hg : g < 3) (hh : h < 3) : pp_prod (fun t => pp_xf qq mq fq sn (pp_al2 j g r h) 0 t a) cn = if a j = g ∧ a r = h then pp_wt cn qq mq fq sn a else 0 := by
  have hA : ∀ t, pp_bt (va_up (fun _ => 7) j (2 ^ g) t) (a t) = 1 ↔ (t = j → a j = g) := by
    intro t
    by_cases e : t = j
    · subst e
      rw [pp_up_self, pp_bt_pow]
      exact ⟨fun h _ => h, fun h => h rfl⟩
    · rw [pp_up_ne _ _ e]
      exact ⟨fun _ z => absurd z e, fun _ => pp_bt_7 _ (ha t)⟩
  have hB : ∀ t, pp_bt (pp_al2 j g r h t) (a t) = 1 ↔ ((t = j → a j = g) ∧ (t = r → a r = h)) := by
    intro t
    unfold pp_al2
    by_cases e : t = r
    · subst e
      rw [pp_up_self, pp_bt_and, hA, pp_bt_pow]
      exact ⟨fun z => ⟨z.1, fun _ => z.2⟩, fun z => ⟨z.1, z.2 rfl⟩⟩
    · rw [pp_up_ne _ _ e, hA]
      exact ⟨fun z => ⟨z, fun q => absurd q e⟩, fun z => z.1⟩
  by_cases hc : a j = g ∧ a r = h
  · rw [if_pos hc]
    exact pp_xprod1 (fun t _ => (hB t).mpr ⟨fun _ => hc.1, fun _ => hc.2⟩)
  · rw [if_neg hc]
    by_cases h1 : a j = g
    · exact pp_xprod0 hr (fun z => hc ⟨h1, ((hB r).mp z).2 rfl⟩)
    · exact pp_xprod0 hj (fun z => h1 (((hB j).mp z).1 rfl))
theorem pp_tot_two {j g r h : Nat} (hj : j < cn) (hr : r < cn) (hg : g < 3) (hh : h < 3) : pp_tot cn qq mq fq sn (pp_al2 j g r h) 0 = pp_msum (pp_m2 cn qq mq fq sn j g r h) (3 ^ cn) := by
  unfold pp_tot
  exact (pp_sum_congr (fun a ha => pp_two_prod ha hj hr hg hh) cn _ pp_G_0).trans (pp_msum_sum cn (fun a => if a j = g ∧ a r = h then pp_wt cn qq mq fq sn a else 0)).symm
theorem pp_eq_two (hcn : cn ≤ 7) (x y z v : Int32) : pp_xtwo cn qq mq fq sn x y z v = pp_mtwo cn qq mq fq sn x y z v := by
  unfold pp_xtwo pp_mtwo
  by_cases hc : pp_bad cn x = 0 ∧ pp_bdg y = 0 ∧ pp_bad cn z = 0 ∧ pp_bdg v = 0
  · rw [if_pos hc, if_pos ⟨hc.1, hc.2.2.1, hc.2.1, hc.2.2.2⟩]
    exact pp_tot_two (pp_bad_0 hc.1 hcn).2 (pp_bad_0 hc.2.2.1 hcn).2 (pp_bdg_0 hc.2.1).2 (pp_bdg_0 hc.2.2.2).2
  · rw [if_neg hc, if_neg (fun z => hc ⟨z.1, z.2.2.1, z.2.1, z.2.2.2⟩)]
theorem pp_al2_self (j g : Nat) : pp_al2 j g j g = va_up (fun _ => 7) j (2 ^ g) := by
  unfold pp_al2
  rw [pp_up_self, Nat.and_self, bx_uu]
theorem pp_eq_share (hcn : cn ≤ 7) (x y : Int32) : pp_xshare cn qq mq fq sn x y = pp_mtwo cn qq mq fq sn x y x y := by
  unfold pp_xshare pp_mtwo
  by_cases hc : pp_bad cn x = 0 ∧ pp_bdg y = 0
  · rw [if_pos hc, if_pos ⟨hc.1, hc.1, hc.2, hc.2⟩, ← pp_al2_self]
    exact pp_tot_two (pp_bad_0 hc.1 hcn).2 (pp_bad_0 hc.1 hcn).2 (pp_bdg_0 hc.2).2 (pp_bdg_0 hc.2).2
  · rw [if_neg hc, if_neg (fun z => hc ⟨z.1, z.2.2.1⟩)]
theorem pp_msum_lin (f g h : Nat → Int64) : ∀ n, (∀ i, i < n → f i + 2 * g i = h i) → pp_msum f n + 2 * pp_msum g n = pp_msum h n
  | 0, _ => by rw [pp_msum, pp_msum, pp_msum]; decide
  | n + 1, hh => by
    have ih := pp_msum_lin f g h n (fun i hi => hh i (by omega))
    have h1 := hh n (by omega)
    rw [pp_msum, pp_msum, pp_msum, ← ih, ← h1]
    generalize pp_msum f n = a
    generalize pp_msum g n = b
    generalize f n = c
    generalize g n = d
    grind
theorem pp_m3_eq (j i : Nat) : pp_m2 cn qq mq fq sn j 1 j 1 i + 2 * pp_m2 cn qq mq fq sn j 2 j 2 i = pp_m3 cn qq mq fq sn j i := by
  have hd := pp_dig_G i j
  unfold pp_m2 pp_m3
  generalize pp_wt cn qq mq fq sn (pp_dig i) = x
  generalize pp_dig i j = d at hd ⊢
  have h3 : d = 0 ∨ d = 1 ∨ d = 2 := by omega
  rcases h3 with rfl | rfl | rfl
  · rw [if_neg (by decide), if_neg (by decide), show lN 0 = 0 from rfl]; grind
  · rw [if_pos (by decide), if_neg (by decide), show lN 1 = 1 from rfl]; grind
  · rw [if_neg (by decide), if_pos (by decide), show lN 2 = 2 from rfl]; grind
theorem pp_eq_cop (hcn : cn ≤ 7) (x : Int32) : pp_xcop cn qq mq fq sn x = pp_mcop cn qq mq fq sn x := by
  unfold pp_xcop pp_mcop
  by_cases hc : pp_bad cn x = 0
  · rw [if_pos hc, if_pos hc, pp_eq_share hcn, pp_eq_share hcn]
    unfold pp_mtwo
    have b1 : pp_bdg (nI 1) = 0 := by decide
    have b2 : pp_bdg (nI 2) = 0 := by decide
    have j1 : pp_j (nI 1) = 1 := by decide
    have j2 : pp_j (nI 2) = 2 := by decide
    rw [if_pos ⟨hc, hc, b1, b1⟩, if_pos ⟨hc, hc, b2, b2⟩, j1, j2]
    exact pp_msum_lin _ _ _ _ (fun i _ => pp_m3_eq (pp_j x) i)
  · rw [if_neg hc, if_neg hc]
/-! possible -/
def pp_cnt (P : Nat → Bool) : Nat → Nat
  | 0 => 0
  | n + 1 => if P n then pp_cnt P n + 1 else pp_cnt P n
theorem pp_cnt_le (P : Nat → Bool) : ∀ n, pp_cnt P n ≤ n
  | 0 => Nat.le_refl 0
  | n + 1 => by
    have := pp_cnt_le P n
    rw [pp_cnt]
    split <;> omega
theorem pp_cnt_sum (P : Nat → Bool) : ∀ n, pp_msum (fun i => if P i then 1 else 0) n = lN (pp_cnt P n)
  | 0 => rfl
  | n + 1 => by
    rw [pp_msum, pp_cnt, pp_cnt_sum P n]
    by_cases h : P n = true
    · rw [if_pos h, if_pos h, lN_1]
    · rw [if_neg h, if_neg h, Int64.add_zero]
theorem pp_cnt_ne (P : Nat → Bool) : ∀ n, pp_cnt P n ≠ 0 ↔ ∃ i, i < n ∧ P i = true
  | 0 => ⟨fun h => absurd rfl h, fun ⟨i, h, _⟩ => absurd h (by omega)⟩
  | n + 1 => by
    have ih := pp_cnt_ne P n
    rw [pp_cnt]
    by_cases h : P n = true
    · rw [if_pos h]
      exact ⟨fun _ => ⟨n, by omega, h⟩, fun _ => by omega⟩
    · rw [if_neg h, ih]
      constructor
      · rintro ⟨i, h1, h2⟩
        exact ⟨i, by omega, h2⟩
      · rintro ⟨i, h1, h2⟩
        by_cases e : i = n
        · subst e; exact absurd h2 h
        · exact ⟨i, by omega, h2⟩
def pp_pb (cn qq : Nat) (mq fq sn : Nat → Nat) (j g : Nat) (a : Nat → Nat) : Bool := decide (pp_poss cn qq mq fq sn a = 1 ∧ a j = g)
theorem pp_pos_prod {a : Nat → Nat} (ha : pp_G a) {j g : Nat} (hj : j < cn) : pp_prod (fun t => pp_xf qq mq fq sn (va_up (fun _ => 7) j (2 ^ g)) 1 t a) cn = if pp_pb cn qq mq fq sn j g a then 1 else 0 := by
  have hA : ∀ t, pp_bt (va_up (fun _ => 7) j (2 ^ g) t) (a t) = 1 ↔ (t = j → a j = g) := by
    intro t
    by_cases e : t = j
    · subst e
      rw [pp_up_self, pp_bt_pow]
      exact ⟨fun h _ => h, fun h => h rfl⟩
    · rw [pp_up_ne _ _ e]
      exact ⟨fun _ z => absurd z e, fun _ => pp_bt_7 _ (ha t)⟩
  by_cases hg : a j = g
  · by_cases hall : ∀ t, t < cn → pp_fac qq mq fq sn t a ≠ 0
    · have hb : pp_pb cn qq mq fq sn j g a = true := by
        unfold pp_pb
        rw [decide_eq_true_eq, pp_poss, if_pos hall]
        exact ⟨rfl, hg⟩
      rw [if_pos hb]
      refine pp_prod_1 cn (fun t ht => ?_)
      show pp_xv _ _ _ _ = 1
      unfold pp_xv
      rw [if_neg (by rw [(hA t).mpr (fun _ => hg)]; decide), if_neg (by decide), if_neg (hall t ht)]
    · have hb : ¬ pp_pb cn qq mq fq sn j g a = true := by
        unfold pp_pb
        rw [decide_eq_true_eq, pp_poss, if_neg hall]
        exact fun z => absurd z.1 (by decide)
      rw [if_neg hb]
      obtain ⟨t, ht⟩ := Classical.not_forall.mp hall
      obtain ⟨ht, h0⟩ := Classical.not_imp.mp ht
      have h0 := Classical.not_not.mp h0
      refine pp_prod_0 (t := t) ?_ cn ht
      show pp_xv _ _ _ _ = 0
      unfold pp_xv
      split
      · rfl
      · first | rfl | simp [h0]
  · have hb : ¬ pp_pb cn qq mq fq sn j g a = true := by
      unfold pp_pb
      rw [decide_eq_true_eq]
      exact fun z => hg z.2
    rw [if_neg hb]
    exact pp_xprod0 hj (fun z => hg ((hA j).mp z rfl))
theorem pp_tot_pos (hcn : cn ≤ 7) {j g : Nat} (hj : j < cn) : pp_tot cn qq mq fq sn (va_up (fun _ => 7) j (2 ^ g)) 1 ≠ 0 ↔ ∃ i, i < 3 ^ cn ∧ pp_poss cn qq mq fq sn (pp_dig i) = 1 ∧ pp_dig i j = g := by
  have e : pp_tot cn qq mq fq sn (va_up (fun _ => 7) j (2 ^ g)) 1 = lN (pp_cnt (fun i => pp_pb cn qq mq fq sn j g (pp_dig i)) (3 ^ cn)) := by
    rw [← pp_cnt_sum]
    unfold pp_tot
    exact (pp_sum_congr (fun a ha => pp_pos_prod ha hj) cn _ pp_G_0).trans (pp_msum_sum cn (fun a => if pp_pb cn qq mq fq sn j g a = true then (1 : Int64) else 0)).symm
  have hle := pp_cnt_le (fun i => pp_pb cn qq mq fq sn j g (pp_dig i)) (3 ^ cn)
  have h3 := pp_3lt hcn
  rw [e, show (0 : Int64) = lN 0 from rfl, Ne, lN_eq (by omega) (by decide)]
  show pp_cnt _ _ ≠ 0 ↔ _
  rw [pp_cnt_ne]
  simp only [pp_pb, decide_eq_true_eq]
theorem pp_xps_bt {j q : Nat} : ∀ n, pp_bt (pp_xps cn qq mq fq sn j n) q = 1 ↔ q < n ∧ pp_tot cn qq mq fq sn (va_up (fun _ => 7) j (2 ^ q)) 1 ≠ 0
  | 0 => by
    rw [pp_xps, pp_bt_0]
    exact ⟨fun h => absurd h (by decide), fun h => absurd h.1 (by omega)⟩
  | n + 1 => by
    have ih := pp_xps_bt (j := j) (q := q) n
    rw [pp_xps]
    by_cases h : pp_tot cn qq mq fq sn (va_up (fun _ => 7) j (2 ^ n)) 1 = 0
    · rw [if_pos h, ih]
      constructor
      · rintro ⟨h1, h2⟩
        exact ⟨by omega, h2⟩
      · rintro ⟨h1, h2⟩
        by_cases e : q = n
        · subst e; exact absurd h h2
        · exact ⟨by omega, h2⟩
    · rw [if_neg h, pp_bt_or, ih, pp_bt_pow]
      constructor
      · rintro (⟨h1, h2⟩ | h1)
        · exact ⟨by omega, h2⟩
        · subst h1; exact ⟨by omega, h⟩
      · rintro ⟨h1, h2⟩
        by_cases e : q = n
        · exact Or.inr e
        · exact Or.inl ⟨by omega, h2⟩
theorem pp_mps_bt {j q : Nat} : ∀ n, pp_bt (pp_mps cn qq mq fq sn j n) q = 1 ↔ ∃ i, i < n ∧ pp_poss cn qq mq fq sn (pp_dig i) = 1 ∧ pp_dig i j = q
  | 0 => by
    rw [pp_mps, pp_bt_0]
    exact ⟨fun h => absurd h (by decide), fun ⟨i, h, _⟩ => absurd h (by omega)⟩
  | n + 1 => by
    have ih := pp_mps_bt (j := j) (q := q) n
    have hp := pp_poss_lt cn qq mq fq sn (pp_dig n)
    rw [pp_mps]
    by_cases h : pp_poss cn qq mq fq sn (pp_dig n) = 0
    · rw [if_pos h, ih]
      constructor
      · rintro ⟨i, h1, h2⟩
        exact ⟨i, by omega, h2⟩
      · rintro ⟨i, h1, h2, h3⟩
        by_cases e : i = n
        · subst e; omega
        · exact ⟨i, by omega, h2, h3⟩
    · rw [if_neg h, pp_bt_or, ih, pp_bt_pow]
      constructor
      · rintro (⟨i, h1, h2⟩ | h1)
        · exact ⟨i, by omega, h2⟩
        · exact ⟨n, by omega, by omega, h1.symm⟩
      · rintro ⟨i, h1, h2, h3⟩
        by_cases e : i = n
        · subst e; exact Or.inr h3.symm
        · exact Or.inl ⟨i, by omega, h2, h3⟩
theorem pp_eq_pos (hcn : cn ≤ 7) (x : Int32) : pp_xpos cn qq mq fq sn x = pp_mpos cn qq mq fq sn x := by
  unfold pp_xpos pp_mpos
  by_cases hc : pp_bad cn x = 0
  · rw [if_pos hc, if_pos hc]
    have hj := (pp_bad_0 hc hcn).2
    apply Nat.eq_of_testBit_eq
    intro q
    rw [Bool.eq_iff_iff, ← pp_bt_tb, ← pp_bt_tb, pp_xps_bt, pp_mps_bt, pp_tot_pos hcn hj]
    constructor
    · exact fun h => h.2
    · rintro ⟨i, h1, h2, h3⟩
      refine ⟨?_, i, h1, h2, h3⟩
      rw [← h3]
      exact pp_dig_G i _
  · rw [if_neg hc, if_neg hc]
/-! before -/
theorem pp_anc_skip {n : Nat} : ∀ m S, n ≤ m → (∀ k, n ≤ k → ¬ pp_bt S k = 1) → pp_anc mq fq m S = pp_anc mq fq n S
  | 0, S, h, _ => by rw [show n = 0 by omega]
  | m + 1, S, h, hS => by
    by_cases e : n = m + 1
    · rw [e]
    · rw [pp_anc, if_neg (fun z => hS m (by omega) z.1)]
      exact pp_anc_skip m S (by omega) hS
theorem pp_anc_rel {r : Nat} : ∀ n S T, n ≤ r → (∀ k, k < n → mq k ≤ k ∧ fq k ≤ k ∧ (mq k ≠ 0 → fq k ≠ 0)) → (∀ q, pp_bt T q = 1 ↔ q = r ∨ pp_bt S q = 1) → (∀ q, pp_bt S q = 1 → q < r) → (∀ q, pp_bt (pp_anc mq fq n T) q = 1 ↔ q = r ∨ pp_bt (pp_anc mq fq n S) q = 1) ∧ (∀ q, pp_bt (pp_anc mq fq n S) q = 1 → q < r)
  | 0, S, T, _, _, hR, hS => ⟨hR, hS⟩
  | n + 1, S, T, hn, hp, hR, hS => by
    have hpn := hp n (by omega)
    have hb : pp_bt T n = 1 ↔ pp_bt S n = 1 := by
      rw [hR]
      exact ⟨fun z => z.resolve_left (by omega), fun z => Or.inr z⟩
    rw [pp_anc, pp_anc]
    refine pp_anc_rel n _ _ (by omega) (fun k hk => hp k (by omega)) ?_ ?_
    · intro q
      by_cases hc : pp_bt S n = 1 ∧ mq n ≠ 0
      · rw [if_pos hc, if_pos ⟨hb.mpr hc.1, hc.2⟩, pp_bt_or, pp_bt_or, pp_bt_or, pp_bt_or, hR q]
        constructor
        · rintro (((z | z) | z) | z)
          · exact Or.inl z
          · exact Or.inr (Or.inl (Or.inl z))
          · exact Or.inr (Or.inl (Or.inr z))
          · exact Or.inr (Or.inr z)
        · rintro (z | ((z | z) | z))
          · exact Or.inl (Or.inl (Or.inl z))
          · exact Or.inl (Or.inl (Or.inr z))
          · exact Or.inl (Or.inr z)
          · exact Or.inr z
      · rw [if_neg hc, if_neg (fun z => hc ⟨hb.mp z.1, z.2⟩)]
        exact hR q
    · intro q hq
      by_cases hc : pp_bt S n = 1 ∧ mq n ≠ 0
      · rw [if_pos hc, pp_bt_or, pp_bt_or, pp_bt_pow, pp_bt_pow] at hq
        rcases hq with (z | z) | z
        · exact hS q z
        · omega
        · omega
      · rw [if_neg hc] at hq
        exact hS q hq
theorem pp_eq_bef (hok : pp_ok cn qq mq fq sn) (x y : Int32) : pp_xbef cn mq fq x y = pp_mbef cn mq fq x y := by
  have hcn := hok.1
  unfold pp_xbef pp_mbef
  by_cases hx : pp_bad cn x = 0
  · by_cases hy : pp_bad cn y = 0
    · obtain ⟨ex, jx⟩ := pp_bad_0 hx hcn
      obtain ⟨ey, jy⟩ := pp_bad_0 hy hcn
      generalize pp_j x = i at ex jx ⊢
      generalize pp_j y = r at ey jy ⊢
      have hpr := pp_par hok jy
      have hS : ∀ q, pp_bt (pp_pr0 mq fq r) q = 1 → q < r := by
        intro q hq
        unfold pp_pr0 at hq
        by_cases h : mq r = 0
        · rw [if_pos h, pp_bt_0] at hq; exact absurd hq (by decide)
        · have h2 := hpr.2.2 h
          rw [if_neg h, pp_bt_or, pp_bt_pow, pp_bt_pow] at hq
          omega
      rw [pp_anc_skip (n := r) cn _ (by omega) (fun k hk z => by have := hS k z; omega)]
      have hT : ∀ q, pp_bt (if pp_bt (2 ^ r) r = 1 ∧ mq r ≠ 0 then 2 ^ r ||| 2 ^ (mq r - 1) ||| 2 ^ (fq r - 1) else 2 ^ r) q = 1 ↔ q = r ∨ pp_bt (pp_pr0 mq fq r) q = 1 := by
        intro q
        unfold pp_pr0
        by_cases h : mq r = 0
        · rw [if_neg (fun z => z.2 h), if_pos h, pp_bt_pow, pp_bt_0]
          exact ⟨fun z => Or.inl z, fun z => z.resolve_right (by decide)⟩
        · rw [if_pos ⟨(pp_bt_pow r r).mpr rfl, h⟩, if_neg h, pp_bt_or, pp_bt_or, pp_bt_or, pp_bt_pow]
          exact or_assoc
      obtain ⟨k1, k2⟩ := pp_anc_rel r _ _ (Nat.le_refl r) (fun k hk => pp_par hok (by omega)) hT hS
      rw [pp_anc]
      by_cases e : i = r
      · have exy : x = y := by rw [ex, ey, e]
        rw [if_neg (fun z => z.2.2.1 exy), if_neg (fun z => by have := k2 i z.2.2; omega)]
      · have exy : ¬ x = y := fun z => e (by rw [ex, ey] at z; exact (nI_eq (by omega) (by omega)).mp z)
        have hk := k1 i
        by_cases hb : pp_bt (pp_anc mq fq r (pp_pr0 mq fq r)) i = 1
        · rw [if_pos ⟨hx, hy, exy, hk.mpr (Or.inr hb)⟩, if_pos ⟨hx, hy, hb⟩]
        · rw [if_neg (fun z => hb ((hk.mp z.2.2.2).resolve_left e)), if_neg (fun z => hb z.2.2)]
    · rw [if_neg (fun z => hy z.2.1), if_neg (fun z => hy z.2.1)]
  · rw [if_neg (fun z => hx z.1), if_neg (fun z => hx z.1)]
end PEQ
end
section
theorem pn_11 : nI 1 - 1 = 0 := by decide
section PNW
variable {p : Program} {l : Launch} {e : Env} {R : Room} {s : State} {m : MethodId} {args : Array Value} {below : List Frame} {meth : Method} {c : Code} {H : Heap} {locs : List Loc} {cells slots : Nat} {Q : State → Prop}
variable {cc : ByteArray} {pc nL : Nat} {ls : Array Slot} {rest : List Value}
variable {D : va_G} {dA dL : ClassId} {A : Nat → Prop} {H0 : Heap} {ws : va_W} {own : String}
theorem pp_newI (hC : pp_CX p m c cc nL s args own D dA dL) (hP : va_P D vwCl ws H) (hD : va_D A ws) (hS : va_S A H0 H locs) (hA : ∀ q, H0.size ≤ q → A q) {N : Nat} {f : Nat → Int32} (hf : ∀ k, f k = 0) (hN : N < 65536) (hcells : cells + 1 ≤ R.cells) (hslots : slots + N ≤ R.slots) (hdg : decode cc pc = .ok (.newarray .int, 2))
    (kk : ∀ (q : Nat) (H1 : Heap), va_P D vwCl (ws ++ [(q, .inl (dA, N, .inl f))]) H1 → va_D A (ws ++ [(q, .inl (dA, N, .inl f))]) → va_S A H0 H1 locs → W p l e R s m args below meth c H1 locs (cells + 1) (slots + N) Q (F0 m (pc + 2) ls (.ref q :: rest))) : W p l e R s m args below meth c H locs cells slots Q (F0 m pc ls (.int (nI N) :: rest)) := by
  refine va_newa (atype := .int) (ty := .int) (N' := N) (a0 := (N, .inl f)) hC.1.1 hC.1.2.1 (hC.1.2.2.2.2 _ q80) rfl hC.2 hP hD hS hA (fun cA => ?_) (nI_pos (by omega)) (nI_clamp (by omega)) (by show N * 4 ≤ 536870912; omega) hcells hslots hdg (fun q cA H1 hK hP hD hS => ?_)
  · show arrV cA N (fun j => .int (f j)) = arrV cA N (fun _ => defaultValue .int)
    rw [show f = fun _ => 0 from funext hf]
    rfl
  · have e1 : s.vm.findClass ("[" ++ FieldType.toString .int) = some cA := (hK.2 2 _ rfl).2
    have e2 : s.vm.findClass ("[" ++ FieldType.toString .int) = some dA := (hC.2.2 0 _ rfl).2
    obtain rfl : cA = dA := Option.some.inj (e1.symm.trans e2)
    exact kk q H1 hP hD hS
theorem pp_newL (hC : pp_CX p m c cc nL s args own D dA dL) (hP : va_P D vwCl ws H) (hD : va_D A ws) (hS : va_S A H0 H locs) (hA : ∀ q, H0.size ≤ q → A q) {N : Nat} {f : Nat → Int64} (hf : ∀ k, f k = 0) (hN : N < 65536) (hcells : cells + 1 ≤ R.cells) (hslots : slots + N ≤ R.slots) (hdg : decode cc pc = .ok (.newarray .long, 2))
    (kk : ∀ (q : Nat) (H1 : Heap), va_P D vwCl (ws ++ [(q, .inl (dL, N, .inr (.inl f)))]) H1 → va_D A (ws ++ [(q, .inl (dL, N, .inr (.inl f)))]) → va_S A H0 H1 locs → W p l e R s m args below meth c H1 locs (cells + 1) (slots + N) Q (F0 m (pc + 2) ls (.ref q :: rest))) : W p l e R s m args below meth c H locs cells slots Q (F0 m pc ls (.int (nI N) :: rest)) := by
  refine va_newa (atype := .long) (ty := .long) (N' := N) (a0 := (N, .inr (.inl f))) hC.1.1 hC.1.2.1 (hC.1.2.2.2.2 _ q81) rfl hC.2 hP hD hS hA (fun cA => ?_) (nI_pos (by omega)) (nI_clamp (by omega)) (by show N * 8 ≤ 536870912; omega) hcells hslots hdg (fun q cA H1 hK hP hD hS => ?_)
  · show arrV cA N (fun j => .long (f j)) = arrV cA N (fun _ => defaultValue .long)
    rw [show f = fun _ => 0 from funext hf]
    rfl
  · have e1 : s.vm.findClass ("[" ++ FieldType.toString .long) = some cA := (hK.2 2 _ rfl).2
    have e2 : s.vm.findClass ("[" ++ FieldType.toString .long) = some dL := (hC.2.2 1 _ rfl).2
    obtain rfl : cA = dL := Option.some.inj (e1.symm.trans e2)
    exact kk q H1 hP hD hS
end PNW
set_option maxHeartbeats 4000000 in
set_option maxRecDepth 100000 in
theorem mX_init (l : Launch) (D : va_G) (dA dL : ClassId) (h0 sz : Nat) : Met l yX0_init (ws_ yX0_init cX0_init 1 none) ({ frames := 1, cells := 8, slots := 1401, locals := 12 } : Room) (va_Pc [.ref h0] (fun U => U.heap.size = sz ∧ va_P D vwCl [(h0, .inr (0, [.int (nI 0), .int (nI 0), .null, .null, .null, .null, .int (nI 0), .int (nI 0), .int (nI 0), .null, .null, .null, .null]))] U.heap ∧ va_K D vwCl (pp_tys dA dL) U ∧ va_D (fun _ => True) [(h0, .inr (0, [.int (nI 0), .int (nI 0), .null, .null, .null, .null, .int (nI 0), .int (nI 0), .int (nI 0), .null, .null, .null, .null]))])) (va_Qv (fun (u : Nat → Nat) => u 0 = h0) (fun u t => va_P D vwCl (pp_WX dA dL u 0 8 (fun _ => 1) (fun _ => 1) (fun _ => 0) (fun _ => 0) 0 0 0 (fun _ => 0) (fun _ => 0) (fun _ => 0) (fun _ => 0)) t.heap ∧ va_D (va_A [(h0, .inr (0, [.int (nI 0), .int (nI 0), .null, .null, .null, .null, .int (nI 0), .int (nI 0), .int (nI 0), .null, .null, .null, .null]))] sz) (pp_WX dA dL u 0 8 (fun _ => 1) (fun _ => 1) (fun _ => 0) (fun _ => 0) 0 0 0 (fun _ => 0) (fun _ => 0) (fun _ => 0) (fun _ => 0))) (va_A [(h0, .inr (0, [.int (nI 0), .int (nI 0), .null, .null, .null, .null, .int (nI 0), .int (nI 0), .int (nI 0), .null, .null, .null, .null]))] sz)) 8 1401 (va_A [(h0, .inr (0, [.int (nI 0), .int (nI 0), .null, .null, .null, .null, .int (nI 0), .int (nI 0), .int (nI 0), .null, .null, .null, .null]))] sz) := by
  refine Met.ofW (cc := cX0_init) (maxL := 1) (ret := none) (by decide) rfl ?_
  intro p e s m args below meth c s₁ B hml hv
  obtain ⟨rfl, hsz, hP, hK, hD0⟩ := hv
  have hx := B.exec
  have hb := B.bytes
  have hr := B.returns
  have hts := atoms_spec (ws := ws_ yX0_init cX0_init 1 none) B.pre
  have hts : ∀ w ∈ lw_all, w.before _ s = true := fun w h => hts w (List.mem_cons_of_mem _ h)
  have hown : s.vm.findClass RX0 = some m.cls := findClass_of_methodNamed B.named
  have hlocks := B.notSynchronized
  have hin : meth.name = "<init>" := (name_of_methodNamed B.named B.method).1
  have hC : pp_CX p m c cX0_init 1 s _ RX0 D dA dL := ⟨⟨hx, hb, hml, hown, hts⟩, hK⟩
  subst hsz
  have hD := hD0.self (sz := s.heap.size)
  generalize hAe : va_A [(h0, .inr (0, [.int (nI 0), .int (nI 0), .null, .null, .null, .null, .int (nI 0), .int (nI 0), .int (nI 0), .null, .null, .null, .null]))] s.heap.size = A at hD ⊢
  have hA : ∀ q : Nat, s.heap.size ≤ q → A q := fun q h => by rw [← hAe]; exact Or.inr h
  have hS : va_S A s.heap s.heap [] := va_S.rf
  have hl := lv_entry ([.ref h0]) (n := 1) (Nat.le_of_ble_eq_true rfl)
  rw [lg_entry_eq]
  generalize (lg_sl ([.ref h0]) ++ List.replicate (1 - (lg_sl ([.ref h0])).length) Slot.unset).toArray = ls at hl ⊢
  have hl : lv_has ls 1 [(0, .ref h0)] := hl
  refine lv_aload_n hx hb dX0_init_0 rfl (lv_at hl 0 rfl) ?_
  refine W.objInit hx hb hown (hts _ q37) (hts _ q38) (hts _ q39) rfl (by rw [hml]; exact hl.1) rfl dX0_init_1 (Nat.le_of_ble_eq_true rfl) (Nat.le_of_ble_eq_true rfl) ?_
  refine W.eq (g2 := F0 m 4 ls []) rfl ?_
  refine lv_aload_n hx hb dX0_init_4 rfl (lv_at hl 0 rfl) ?_
  refine lv_bipush (v := nI 7) hx hb dX0_init_5 (by decide) ?_
  refine pp_newI (N := 7) (f := fun k => nI ((fun _ => 1) k) - 1) hC hP hD hS hA (fun _ => pn_11) (by decide) (Nat.le_of_ble_eq_true rfl) (Nat.le_of_ble_eq_true rfl) dX0_init_7 (fun q1 H hP hD hS => ?_)
  have hP : va_P D vwCl [(h0, .inr (0, [.int (nI 0), .int (nI 0), .null, .null, .null, .null, .int (nI 0), .int (nI 0), .int (nI 0), .null, .null, .null, .null])), (q1, .inl (dA, 7, .inl (fun k => nI ((fun _ => 1) k) - 1)))] H := hP
  have hD : va_D A [(h0, .inr (0, [.int (nI 0), .int (nI 0), .null, .null, .null, .null, .int (nI 0), .int (nI 0), .int (nI 0), .null, .null, .null, .null])), (q1, .inl (dA, 7, .inl (fun k => nI ((fun _ => 1) k) - 1)))] := hD
  refine va_putF (D := D) (ci := 0) (v := .ref q1) (ty := .array .int) (C := RX0) (T := TX0) (N := 13) hx hb hts in_X0 tyX0 tyX0_ok nmX0 hown hK hP hD hS 0 rfl rfl 2 (by decide) (hts _ q42) (fun _ h9 => h9) rfl hin rfl (by decide +kernel) rfl rfl (Nat.le_of_ble_eq_true rfl) dX0_init_9 (fun H locs hP hD hS => ?_)
  have hP : va_P D vwCl [(h0, .inr (0, [.int (nI 0), .int (nI 0), .ref q1, .null, .null, .null, .int (nI 0), .int (nI 0), .int (nI 0), .null, .null, .null, .null])), (q1, .inl (dA, 7, .inl (fun k => nI ((fun _ => 1) k) - 1)))] H := hP
  have hD : va_D A [(h0, .inr (0, [.int (nI 0), .int (nI 0), .ref q1, .null, .null, .null, .int (nI 0), .int (nI 0), .int (nI 0), .null, .null, .null, .null])), (q1, .inl (dA, 7, .inl (fun k => nI ((fun _ => 1) k) - 1)))] := hD
  refine lv_aload_n hx hb dX0_init_12 rfl (lv_at hl 0 rfl) ?_
  refine lv_bipush (v := nI 7) hx hb dX0_init_13 (by decide) ?_
  refine pp_newI (N := 7) (f := fun k => nI ((fun _ => 1) k) - 1) hC hP hD hS hA (fun _ => pn_11) (by decide) (Nat.le_of_ble_eq_true rfl) (Nat.le_of_ble_eq_true rfl) dX0_init_15 (fun q2 H hP hD hS => ?_)
  have hP : va_P D vwCl [(h0, .inr (0, [.int (nI 0), .int (nI 0), .ref q1, .null, .null, .null, .int (nI 0), .int (nI 0), .int (nI 0), .null, .null, .null, .null])), (q1, .inl (dA, 7, .inl (fun k => nI ((fun _ => 1) k) - 1))), (q2, .inl (dA, 7, .inl (fun k => nI ((fun _ => 1) k) - 1)))] H := hP
  have hD : va_D A [(h0, .inr (0, [.int (nI 0), .int (nI 0), .ref q1, .null, .null, .null, .int (nI 0), .int (nI 0), .int (nI 0), .null, .null, .null, .null])), (q1, .inl (dA, 7, .inl (fun k => nI ((fun _ => 1) k) - 1))), (q2, .inl (dA, 7, .inl (fun k => nI ((fun _ => 1) k) - 1)))] := hD
  refine va_putF (D := D) (ci := 0) (v := .ref q2) (ty := .array .int) (C := RX0) (T := TX0) (N := 13) hx hb hts in_X0 tyX0 tyX0_ok nmX0 hown hK hP hD hS 0 rfl rfl 3 (by decide) (hts _ q43) (fun _ h9 => h9) rfl hin rfl (by decide +kernel) rfl rfl (Nat.le_of_ble_eq_true rfl) dX0_init_17 (fun H locs hP hD hS => ?_)
  have hP : va_P D vwCl [(h0, .inr (0, [.int (nI 0), .int (nI 0), .ref q1, .ref q2, .null, .null, .int (nI 0), .int (nI 0), .int (nI 0), .null, .null, .null, .null])), (q1, .inl (dA, 7, .inl (fun k => nI ((fun _ => 1) k) - 1))), (q2, .inl (dA, 7, .inl (fun k => nI ((fun _ => 1) k) - 1)))] H := hP
  have hD : va_D A [(h0, .inr (0, [.int (nI 0), .int (nI 0), .ref q1, .ref q2, .null, .null, .int (nI 0), .int (nI 0), .int (nI 0), .null, .null, .null, .null])), (q1, .inl (dA, 7, .inl (fun k => nI ((fun _ => 1) k) - 1))), (q2, .inl (dA, 7, .inl (fun k => nI ((fun _ => 1) k) - 1)))] := hD
  refine lv_aload_n hx hb dX0_init_20 rfl (lv_at hl 0 rfl) ?_
  refine lv_bipush (v := nI 21) hx hb dX0_init_21 (by decide) ?_
  refine pp_newI (N := 21) (f := fun k => nI ((fun _ => 0) k)) hC hP hD hS hA (fun _ => rfl) (by decide) (Nat.le_of_ble_eq_true rfl) (Nat.le_of_ble_eq_true rfl) dX0_init_23 (fun q3 H hP hD hS => ?_)
  have hP : va_P D vwCl [(h0, .inr (0, [.int (nI 0), .int (nI 0), .ref q1, .ref q2, .null, .null, .int (nI 0), .int (nI 0), .int (nI 0), .null, .null, .null, .null])), (q1, .inl (dA, 7, .inl (fun k => nI ((fun _ => 1) k) - 1))), (q2, .inl (dA, 7, .inl (fun k => nI ((fun _ => 1) k) - 1))), (q3, .inl (dA, 21, .inl (fun k => nI ((fun _ => 0) k))))] H := hP
  have hD : va_D A [(h0, .inr (0, [.int (nI 0), .int (nI 0), .ref q1, .ref q2, .null, .null, .int (nI 0), .int (nI 0), .int (nI 0), .null, .null, .null, .null])), (q1, .inl (dA, 7, .inl (fun k => nI ((fun _ => 1) k) - 1))), (q2, .inl (dA, 7, .inl (fun k => nI ((fun _ => 1) k) - 1))), (q3, .inl (dA, 21, .inl (fun k => nI ((fun _ => 0) k))))] := hD
  refine va_putF (D := D) (ci := 0) (v := .ref q3) (ty := .array .int) (C := RX0) (T := TX0) (N := 13) hx hb hts in_X0 tyX0 tyX0_ok nmX0 hown hK hP hD hS 0 rfl rfl 4 (by decide) (hts _ q44) (fun _ h9 => h9) rfl hin rfl (by decide +kernel) rfl rfl (Nat.le_of_ble_eq_true rfl) dX0_init_25 (fun H locs hP hD hS => ?_)
  have hP : va_P D vwCl [(h0, .inr (0, [.int (nI 0), .int (nI 0), .ref q1, .ref q2, .ref q3, .null, .int (nI 0), .int (nI 0), .int (nI 0), .null, .null, .null, .null])), (q1, .inl (dA, 7, .inl (fun k => nI ((fun _ => 1) k) - 1))), (q2, .inl (dA, 7, .inl (fun k => nI ((fun _ => 1) k) - 1))), (q3, .inl (dA, 21, .inl (fun k => nI ((fun _ => 0) k))))] H := hP
  have hD : va_D A [(h0, .inr (0, [.int (nI 0), .int (nI 0), .ref q1, .ref q2, .ref q3, .null, .int (nI 0), .int (nI 0), .int (nI 0), .null, .null, .null, .null])), (q1, .inl (dA, 7, .inl (fun k => nI ((fun _ => 1) k) - 1))), (q2, .inl (dA, 7, .inl (fun k => nI ((fun _ => 1) k) - 1))), (q3, .inl (dA, 21, .inl (fun k => nI ((fun _ => 0) k))))] := hD
  refine lv_aload_n hx hb dX0_init_28 rfl (lv_at hl 0 rfl) ?_
  refine lv_bipush (v := nI 7) hx hb dX0_init_29 (by decide) ?_
  refine pp_newI (N := 7) (f := fun k => nI ((fun _ => 0) k)) hC hP hD hS hA (fun _ => rfl) (by decide) (Nat.le_of_ble_eq_true rfl) (Nat.le_of_ble_eq_true rfl) dX0_init_31 (fun q4 H hP hD hS => ?_)
  have hP : va_P D vwCl [(h0, .inr (0, [.int (nI 0), .int (nI 0), .ref q1, .ref q2, .ref q3, .null, .int (nI 0), .int (nI 0), .int (nI 0), .null, .null, .null, .null])), (q1, .inl (dA, 7, .inl (fun k => nI ((fun _ => 1) k) - 1))), (q2, .inl (dA, 7, .inl (fun k => nI ((fun _ => 1) k) - 1))), (q3, .inl (dA, 21, .inl (fun k => nI ((fun _ => 0) k)))), (q4, .inl (dA, 7, .inl (fun k => nI ((fun _ => 0) k))))] H := hP
  have hD : va_D A [(h0, .inr (0, [.int (nI 0), .int (nI 0), .ref q1, .ref q2, .ref q3, .null, .int (nI 0), .int (nI 0), .int (nI 0), .null, .null, .null, .null])), (q1, .inl (dA, 7, .inl (fun k => nI ((fun _ => 1) k) - 1))), (q2, .inl (dA, 7, .inl (fun k => nI ((fun _ => 1) k) - 1))), (q3, .inl (dA, 21, .inl (fun k => nI ((fun _ => 0) k)))), (q4, .inl (dA, 7, .inl (fun k => nI ((fun _ => 0) k))))] := hD
  refine va_putF (D := D) (ci := 0) (v := .ref q4) (ty := .array .int) (C := RX0) (T := TX0) (N := 13) hx hb hts in_X0 tyX0 tyX0_ok nmX0 hown hK hP hD hS 0 rfl rfl 5 (by decide) (hts _ q45) (fun _ h9 => h9) rfl hin rfl (by decide +kernel) rfl rfl (Nat.le_of_ble_eq_true rfl) dX0_init_33 (fun H locs hP hD hS => ?_)
  have hP : va_P D vwCl [(h0, .inr (0, [.int (nI 0), .int (nI 0), .ref q1, .ref q2, .ref q3, .ref q4, .int (nI 0), .int (nI 0), .int (nI 0), .null, .null, .null, .null])), (q1, .inl (dA, 7, .inl (fun k => nI ((fun _ => 1) k) - 1))), (q2, .inl (dA, 7, .inl (fun k => nI ((fun _ => 1) k) - 1))), (q3, .inl (dA, 21, .inl (fun k => nI ((fun _ => 0) k)))), (q4, .inl (dA, 7, .inl (fun k => nI ((fun _ => 0) k))))] H := hP
  have hD : va_D A [(h0, .inr (0, [.int (nI 0), .int (nI 0), .ref q1, .ref q2, .ref q3, .ref q4, .int (nI 0), .int (nI 0), .int (nI 0), .null, .null, .null, .null])), (q1, .inl (dA, 7, .inl (fun k => nI ((fun _ => 1) k) - 1))), (q2, .inl (dA, 7, .inl (fun k => nI ((fun _ => 1) k) - 1))), (q3, .inl (dA, 21, .inl (fun k => nI ((fun _ => 0) k)))), (q4, .inl (dA, 7, .inl (fun k => nI ((fun _ => 0) k))))] := hD
  refine lv_aload_n hx hb dX0_init_36 rfl (lv_at hl 0 rfl) ?_
  refine lv_bipush (v := nI 16) hx hb dX0_init_37 (by decide) ?_
  refine pp_newI (N := 16) (f := fun k => nI ((fun _ => 0) k)) hC hP hD hS hA (fun _ => rfl) (by decide) (Nat.le_of_ble_eq_true rfl) (Nat.le_of_ble_eq_true rfl) dX0_init_39 (fun q5 H hP hD hS => ?_)
  have hP : va_P D vwCl [(h0, .inr (0, [.int (nI 0), .int (nI 0), .ref q1, .ref q2, .ref q3, .ref q4, .int (nI 0), .int (nI 0), .int (nI 0), .null, .null, .null, .null])), (q1, .inl (dA, 7, .inl (fun k => nI ((fun _ => 1) k) - 1))), (q2, .inl (dA, 7, .inl (fun k => nI ((fun _ => 1) k) - 1))), (q3, .inl (dA, 21, .inl (fun k => nI ((fun _ => 0) k)))), (q4, .inl (dA, 7, .inl (fun k => nI ((fun _ => 0) k)))), (q5, .inl (dA, 16, .inl (fun k => nI ((fun _ => 0) k))))] H := hP
  have hD : va_D A [(h0, .inr (0, [.int (nI 0), .int (nI 0), .ref q1, .ref q2, .ref q3, .ref q4, .int (nI 0), .int (nI 0), .int (nI 0), .null, .null, .null, .null])), (q1, .inl (dA, 7, .inl (fun k => nI ((fun _ => 1) k) - 1))), (q2, .inl (dA, 7, .inl (fun k => nI ((fun _ => 1) k) - 1))), (q3, .inl (dA, 21, .inl (fun k => nI ((fun _ => 0) k)))), (q4, .inl (dA, 7, .inl (fun k => nI ((fun _ => 0) k)))), (q5, .inl (dA, 16, .inl (fun k => nI ((fun _ => 0) k))))] := hD
  refine va_putF (D := D) (ci := 0) (v := .ref q5) (ty := .array .int) (C := RX0) (T := TX0) (N := 13) hx hb hts in_X0 tyX0 tyX0_ok nmX0 hown hK hP hD hS 0 rfl rfl 9 (by decide) (hts _ q49) (fun _ h9 => h9) rfl hin rfl (by decide +kernel) rfl rfl (Nat.le_of_ble_eq_true rfl) dX0_init_41 (fun H locs hP hD hS => ?_)
  have hP : va_P D vwCl [(h0, .inr (0, [.int (nI 0), .int (nI 0), .ref q1, .ref q2, .ref q3, .ref q4, .int (nI 0), .int (nI 0), .int (nI 0), .ref q5, .null, .null, .null])), (q1, .inl (dA, 7, .inl (fun k => nI ((fun _ => 1) k) - 1))), (q2, .inl (dA, 7, .inl (fun k => nI ((fun _ => 1) k) - 1))), (q3, .inl (dA, 21, .inl (fun k => nI ((fun _ => 0) k)))), (q4, .inl (dA, 7, .inl (fun k => nI ((fun _ => 0) k)))), (q5, .inl (dA, 16, .inl (fun k => nI ((fun _ => 0) k))))] H := hP
  have hD : va_D A [(h0, .inr (0, [.int (nI 0), .int (nI 0), .ref q1, .ref q2, .ref q3, .ref q4, .int (nI 0), .int (nI 0), .int (nI 0), .ref q5, .null, .null, .null])), (q1, .inl (dA, 7, .inl (fun k => nI ((fun _ => 1) k) - 1))), (q2, .inl (dA, 7, .inl (fun k => nI ((fun _ => 1) k) - 1))), (q3, .inl (dA, 21, .inl (fun k => nI ((fun _ => 0) k)))), (q4, .inl (dA, 7, .inl (fun k => nI ((fun _ => 0) k)))), (q5, .inl (dA, 16, .inl (fun k => nI ((fun _ => 0) k))))] := hD
  refine lv_aload_n hx hb dX0_init_44 rfl (lv_at hl 0 rfl) ?_
  refine lv_bipush (v := nI 16) hx hb dX0_init_45 (by decide) ?_
  refine pp_newI (N := 16) (f := fun k => nI ((fun _ => 0) k)) hC hP hD hS hA (fun _ => rfl) (by decide) (Nat.le_of_ble_eq_true rfl) (Nat.le_of_ble_eq_true rfl) dX0_init_47 (fun q6 H hP hD hS => ?_)
  have hP : va_P D vwCl [(h0, .inr (0, [.int (nI 0), .int (nI 0), .ref q1, .ref q2, .ref q3, .ref q4, .int (nI 0), .int (nI 0), .int (nI 0), .ref q5, .null, .null, .null])), (q1, .inl (dA, 7, .inl (fun k => nI ((fun _ => 1) k) - 1))), (q2, .inl (dA, 7, .inl (fun k => nI ((fun _ => 1) k) - 1))), (q3, .inl (dA, 21, .inl (fun k => nI ((fun _ => 0) k)))), (q4, .inl (dA, 7, .inl (fun k => nI ((fun _ => 0) k)))), (q5, .inl (dA, 16, .inl (fun k => nI ((fun _ => 0) k)))), (q6, .inl (dA, 16, .inl (fun k => nI ((fun _ => 0) k))))] H := hP
  have hD : va_D A [(h0, .inr (0, [.int (nI 0), .int (nI 0), .ref q1, .ref q2, .ref q3, .ref q4, .int (nI 0), .int (nI 0), .int (nI 0), .ref q5, .null, .null, .null])), (q1, .inl (dA, 7, .inl (fun k => nI ((fun _ => 1) k) - 1))), (q2, .inl (dA, 7, .inl (fun k => nI ((fun _ => 1) k) - 1))), (q3, .inl (dA, 21, .inl (fun k => nI ((fun _ => 0) k)))), (q4, .inl (dA, 7, .inl (fun k => nI ((fun _ => 0) k)))), (q5, .inl (dA, 16, .inl (fun k => nI ((fun _ => 0) k)))), (q6, .inl (dA, 16, .inl (fun k => nI ((fun _ => 0) k))))] := hD
  refine va_putF (D := D) (ci := 0) (v := .ref q6) (ty := .array .int) (C := RX0) (T := TX0) (N := 13) hx hb hts in_X0 tyX0 tyX0_ok nmX0 hown hK hP hD hS 0 rfl rfl 10 (by decide) (hts _ q50) (fun _ h9 => h9) rfl hin rfl (by decide +kernel) rfl rfl (Nat.le_of_ble_eq_true rfl) dX0_init_49 (fun H locs hP hD hS => ?_)
  have hP : va_P D vwCl [(h0, .inr (0, [.int (nI 0), .int (nI 0), .ref q1, .ref q2, .ref q3, .ref q4, .int (nI 0), .int (nI 0), .int (nI 0), .ref q5, .ref q6, .null, .null])), (q1, .inl (dA, 7, .inl (fun k => nI ((fun _ => 1) k) - 1))), (q2, .inl (dA, 7, .inl (fun k => nI ((fun _ => 1) k) - 1))), (q3, .inl (dA, 21, .inl (fun k => nI ((fun _ => 0) k)))), (q4, .inl (dA, 7, .inl (fun k => nI ((fun _ => 0) k)))), (q5, .inl (dA, 16, .inl (fun k => nI ((fun _ => 0) k)))), (q6, .inl (dA, 16, .inl (fun k => nI ((fun _ => 0) k))))] H := hP
  have hD : va_D A [(h0, .inr (0, [.int (nI 0), .int (nI 0), .ref q1, .ref q2, .ref q3, .ref q4, .int (nI 0), .int (nI 0), .int (nI 0), .ref q5, .ref q6, .null, .null])), (q1, .inl (dA, 7, .inl (fun k => nI ((fun _ => 1) k) - 1))), (q2, .inl (dA, 7, .inl (fun k => nI ((fun _ => 1) k) - 1))), (q3, .inl (dA, 21, .inl (fun k => nI ((fun _ => 0) k)))), (q4, .inl (dA, 7, .inl (fun k => nI ((fun _ => 0) k)))), (q5, .inl (dA, 16, .inl (fun k => nI ((fun _ => 0) k)))), (q6, .inl (dA, 16, .inl (fun k => nI ((fun _ => 0) k))))] := hD
  refine lv_aload_n hx hb dX0_init_52 rfl (lv_at hl 0 rfl) ?_
  refine lv_sipush (v := nI 1320) hx hb dX0_init_53 (by decide) ?_
  refine pp_newL (N := 1320) (f := fun _ => 0) hC hP hD hS hA (fun _ => rfl) (by decide) (Nat.le_of_ble_eq_true rfl) (Nat.le_of_ble_eq_true rfl) dX0_init_56 (fun q7 H hP hD hS => ?_)
  have hP : va_P D vwCl [(h0, .inr (0, [.int (nI 0), .int (nI 0), .ref q1, .ref q2, .ref q3, .ref q4, .int (nI 0), .int (nI 0), .int (nI 0), .ref q5, .ref q6, .null, .null])), (q1, .inl (dA, 7, .inl (fun k => nI ((fun _ => 1) k) - 1))), (q2, .inl (dA, 7, .inl (fun k => nI ((fun _ => 1) k) - 1))), (q3, .inl (dA, 21, .inl (fun k => nI ((fun _ => 0) k)))), (q4, .inl (dA, 7, .inl (fun k => nI ((fun _ => 0) k)))), (q5, .inl (dA, 16, .inl (fun k => nI ((fun _ => 0) k)))), (q6, .inl (dA, 16, .inl (fun k => nI ((fun _ => 0) k)))), (q7, .inl (dL, 1320, .inr (.inl (fun _ => 0))))] H := hP
  have hD : va_D A [(h0, .inr (0, [.int (nI 0), .int (nI 0), .ref q1, .ref q2, .ref q3, .ref q4, .int (nI 0), .int (nI 0), .int (nI 0), .ref q5, .ref q6, .null, .null])), (q1, .inl (dA, 7, .inl (fun k => nI ((fun _ => 1) k) - 1))), (q2, .inl (dA, 7, .inl (fun k => nI ((fun _ => 1) k) - 1))), (q3, .inl (dA, 21, .inl (fun k => nI ((fun _ => 0) k)))), (q4, .inl (dA, 7, .inl (fun k => nI ((fun _ => 0) k)))), (q5, .inl (dA, 16, .inl (fun k => nI ((fun _ => 0) k)))), (q6, .inl (dA, 16, .inl (fun k => nI ((fun _ => 0) k)))), (q7, .inl (dL, 1320, .inr (.inl (fun _ => 0))))] := hD
  refine va_putF (D := D) (ci := 0) (v := .ref q7) (ty := .array .long) (C := RX0) (T := TX0) (N := 13) hx hb hts in_X0 tyX0 tyX0_ok nmX0 hown hK hP hD hS 0 rfl rfl 11 (by decide) (hts _ q51) (fun _ h9 => h9) rfl hin rfl (by decide +kernel) rfl rfl (Nat.le_of_ble_eq_true rfl) dX0_init_58 (fun H locs hP hD hS => ?_)
  have hP : va_P D vwCl [(h0, .inr (0, [.int (nI 0), .int (nI 0), .ref q1, .ref q2, .ref q3, .ref q4, .int (nI 0), .int (nI 0), .int (nI 0), .ref q5, .ref q6, .ref q7, .null])), (q1, .inl (dA, 7, .inl (fun k => nI ((fun _ => 1) k) - 1))), (q2, .inl (dA, 7, .inl (fun k => nI ((fun _ => 1) k) - 1))), (q3, .inl (dA, 21, .inl (fun k => nI ((fun _ => 0) k)))), (q4, .inl (dA, 7, .inl (fun k => nI ((fun _ => 0) k)))), (q5, .inl (dA, 16, .inl (fun k => nI ((fun _ => 0) k)))), (q6, .inl (dA, 16, .inl (fun k => nI ((fun _ => 0) k)))), (q7, .inl (dL, 1320, .inr (.inl (fun _ => 0))))] H := hP
  have hD : va_D A [(h0, .inr (0, [.int (nI 0), .int (nI 0), .ref q1, .ref q2, .ref q3, .ref q4, .int (nI 0), .int (nI 0), .int (nI 0), .ref q5, .ref q6, .ref q7, .null])), (q1, .inl (dA, 7, .inl (fun k => nI ((fun _ => 1) k) - 1))), (q2, .inl (dA, 7, .inl (fun k => nI ((fun _ => 1) k) - 1))), (q3, .inl (dA, 21, .inl (fun k => nI ((fun _ => 0) k)))), (q4, .inl (dA, 7, .inl (fun k => nI ((fun _ => 0) k)))), (q5, .inl (dA, 16, .inl (fun k => nI ((fun _ => 0) k)))), (q6, .inl (dA, 16, .inl (fun k => nI ((fun _ => 0) k)))), (q7, .inl (dL, 1320, .inr (.inl (fun _ => 0))))] := hD
  refine lv_aload_n hx hb dX0_init_61 rfl (lv_at hl 0 rfl) ?_
  refine lv_bipush (v := nI 7) hx hb dX0_init_62 (by decide) ?_
  refine pp_newI (N := 7) (f := fun k => nI ((fun _ => 0) k)) hC hP hD hS hA (fun _ => rfl) (by decide) (Nat.le_of_ble_eq_true rfl) (Nat.le_of_ble_eq_true rfl) dX0_init_64 (fun q8 H hP hD hS => ?_)
  have hP : va_P D vwCl [(h0, .inr (0, [.int (nI 0), .int (nI 0), .ref q1, .ref q2, .ref q3, .ref q4, .int (nI 0), .int (nI 0), .int (nI 0), .ref q5, .ref q6, .ref q7, .null])), (q1, .inl (dA, 7, .inl (fun k => nI ((fun _ => 1) k) - 1))), (q2, .inl (dA, 7, .inl (fun k => nI ((fun _ => 1) k) - 1))), (q3, .inl (dA, 21, .inl (fun k => nI ((fun _ => 0) k)))), (q4, .inl (dA, 7, .inl (fun k => nI ((fun _ => 0) k)))), (q5, .inl (dA, 16, .inl (fun k => nI ((fun _ => 0) k)))), (q6, .inl (dA, 16, .inl (fun k => nI ((fun _ => 0) k)))), (q7, .inl (dL, 1320, .inr (.inl (fun _ => 0)))), (q8, .inl (dA, 7, .inl (fun k => nI ((fun _ => 0) k))))] H := hP
  have hD : va_D A [(h0, .inr (0, [.int (nI 0), .int (nI 0), .ref q1, .ref q2, .ref q3, .ref q4, .int (nI 0), .int (nI 0), .int (nI 0), .ref q5, .ref q6, .ref q7, .null])), (q1, .inl (dA, 7, .inl (fun k => nI ((fun _ => 1) k) - 1))), (q2, .inl (dA, 7, .inl (fun k => nI ((fun _ => 1) k) - 1))), (q3, .inl (dA, 21, .inl (fun k => nI ((fun _ => 0) k)))), (q4, .inl (dA, 7, .inl (fun k => nI ((fun _ => 0) k)))), (q5, .inl (dA, 16, .inl (fun k => nI ((fun _ => 0) k)))), (q6, .inl (dA, 16, .inl (fun k => nI ((fun _ => 0) k)))), (q7, .inl (dL, 1320, .inr (.inl (fun _ => 0)))), (q8, .inl (dA, 7, .inl (fun k => nI ((fun _ => 0) k))))] := hD
  refine va_putF (D := D) (ci := 0) (v := .ref q8) (ty := .array .int) (C := RX0) (T := TX0) (N := 13) hx hb hts in_X0 tyX0 tyX0_ok nmX0 hown hK hP hD hS 0 rfl rfl 12 (by decide) (hts _ q52) (fun _ h9 => h9) rfl hin rfl (by decide +kernel) rfl rfl (Nat.le_of_ble_eq_true rfl) dX0_init_66 (fun H locs hP hD hS => ?_)
  have hP : va_P D vwCl [(h0, .inr (0, [.int (nI 0), .int (nI 0), .ref q1, .ref q2, .ref q3, .ref q4, .int (nI 0), .int (nI 0), .int (nI 0), .ref q5, .ref q6, .ref q7, .ref q8])), (q1, .inl (dA, 7, .inl (fun k => nI ((fun _ => 1) k) - 1))), (q2, .inl (dA, 7, .inl (fun k => nI ((fun _ => 1) k) - 1))), (q3, .inl (dA, 21, .inl (fun k => nI ((fun _ => 0) k)))), (q4, .inl (dA, 7, .inl (fun k => nI ((fun _ => 0) k)))), (q5, .inl (dA, 16, .inl (fun k => nI ((fun _ => 0) k)))), (q6, .inl (dA, 16, .inl (fun k => nI ((fun _ => 0) k)))), (q7, .inl (dL, 1320, .inr (.inl (fun _ => 0)))), (q8, .inl (dA, 7, .inl (fun k => nI ((fun _ => 0) k))))] H := hP
  have hD : va_D A [(h0, .inr (0, [.int (nI 0), .int (nI 0), .ref q1, .ref q2, .ref q3, .ref q4, .int (nI 0), .int (nI 0), .int (nI 0), .ref q5, .ref q6, .ref q7, .ref q8])), (q1, .inl (dA, 7, .inl (fun k => nI ((fun _ => 1) k) - 1))), (q2, .inl (dA, 7, .inl (fun k => nI ((fun _ => 1) k) - 1))), (q3, .inl (dA, 21, .inl (fun k => nI ((fun _ => 0) k)))), (q4, .inl (dA, 7, .inl (fun k => nI ((fun _ => 0) k)))), (q5, .inl (dA, 16, .inl (fun k => nI ((fun _ => 0) k)))), (q6, .inl (dA, 16, .inl (fun k => nI ((fun _ => 0) k)))), (q7, .inl (dL, 1320, .inr (.inl (fun _ => 0)))), (q8, .inl (dA, 7, .inl (fun k => nI ((fun _ => 0) k))))] := hD
  refine lv_aload_n hx hb dX0_init_69 rfl (lv_at hl 0 rfl) ?_
  refine lv_bipush (v := nI 8) hx hb dX0_init_70 (by decide) ?_
  refine va_put (D := D) (ci := 0) (v := .int (nI 8)) (ty := .int) (C := RX0) (T := TX0) (N := 13) hx hb hts in_X0 tyX0 tyX0_ok nmX0 hown hK hP hD hS 0 rfl rfl 1 (by decide) (hts _ q41) (fun _ h9 => h9) rfl (by decide +kernel) rfl rfl (Nat.le_of_ble_eq_true rfl) dX0_init_72 (fun H locs hP hD hS => ?_)
  have hP : va_P D vwCl [(h0, .inr (0, [.int (nI 0), .int (nI 8), .ref q1, .ref q2, .ref q3, .ref q4, .int (nI 0), .int (nI 0), .int (nI 0), .ref q5, .ref q6, .ref q7, .ref q8])), (q1, .inl (dA, 7, .inl (fun k => nI ((fun _ => 1) k) - 1))), (q2, .inl (dA, 7, .inl (fun k => nI ((fun _ => 1) k) - 1))), (q3, .inl (dA, 21, .inl (fun k => nI ((fun _ => 0) k)))), (q4, .inl (dA, 7, .inl (fun k => nI ((fun _ => 0) k)))), (q5, .inl (dA, 16, .inl (fun k => nI ((fun _ => 0) k)))), (q6, .inl (dA, 16, .inl (fun k => nI ((fun _ => 0) k)))), (q7, .inl (dL, 1320, .inr (.inl (fun _ => 0)))), (q8, .inl (dA, 7, .inl (fun k => nI ((fun _ => 0) k))))] H := hP
  have hD : va_D A [(h0, .inr (0, [.int (nI 0), .int (nI 8), .ref q1, .ref q2, .ref q3, .ref q4, .int (nI 0), .int (nI 0), .int (nI 0), .ref q5, .ref q6, .ref q7, .ref q8])), (q1, .inl (dA, 7, .inl (fun k => nI ((fun _ => 1) k) - 1))), (q2, .inl (dA, 7, .inl (fun k => nI ((fun _ => 1) k) - 1))), (q3, .inl (dA, 21, .inl (fun k => nI ((fun _ => 0) k)))), (q4, .inl (dA, 7, .inl (fun k => nI ((fun _ => 0) k)))), (q5, .inl (dA, 16, .inl (fun k => nI ((fun _ => 0) k)))), (q6, .inl (dA, 16, .inl (fun k => nI ((fun _ => 0) k)))), (q7, .inl (dL, 1320, .inr (.inl (fun _ => 0)))), (q8, .inl (dA, 7, .inl (fun k => nI ((fun _ => 0) k))))] := hD
  refine W.widen (k := 8) (n := 1401) (Nat.le_of_ble_eq_true rfl) (Nat.le_of_ble_eq_true rfl) ?_
  exact W.vret hx hb hr (fun t ht hW => ⟨⟨(fun k => match k with | 0 => h0 | 1 => q1 | 2 => q2 | 3 => q3 | 4 => q4 | 5 => q5 | 6 => q6 | 7 => q7 | _ => q8), rfl, rfl, by show va_P D vwCl [(h0, .inr (0, [.int (nI 0), .int (nI 8), .ref q1, .ref q2, .ref q3, .ref q4, .int (nI 0), .int (nI 0), .int (nI 0), .ref q5, .ref q6, .ref q7, .ref q8])), (q1, .inl (dA, 7, .inl (fun k => nI ((fun _ => 1) k) - 1))), (q2, .inl (dA, 7, .inl (fun k => nI ((fun _ => 1) k) - 1))), (q3, .inl (dA, 21, .inl (fun k => nI ((fun _ => 0) k)))), (q4, .inl (dA, 7, .inl (fun k => nI ((fun _ => 0) k)))), (q5, .inl (dA, 16, .inl (fun k => nI ((fun _ => 0) k)))), (q6, .inl (dA, 16, .inl (fun k => nI ((fun _ => 0) k)))), (q7, .inl (dL, 1320, .inr (.inl (fun _ => 0)))), (q8, .inl (dA, 7, .inl (fun k => nI ((fun _ => 0) k))))] t.heap; rw [ht]; exact hP, hD⟩, hS.F ht⟩) hS.2.2 dX0_init_75
set_option maxHeartbeats 4000000 in
set_option maxRecDepth 100000 in
theorem mM_init (l : Launch) (D : va_G) (dA dL : ClassId) (h0 sz : Nat) : Met l yX1_init (ws_ yX1_init cX1_init 1 none) ({ frames := 1, cells := 3, slots := 35, locals := 12 } : Room) (va_Pc [.ref h0] (fun U => U.heap.size = sz ∧ va_P D vwCl [(h0, .inr (1, [.null, .null, .null, .int (nI 0), .int (nI 0)]))] U.heap ∧ va_K D vwCl (pp_tys dA dL) U ∧ va_D (fun _ => True) [(h0, .inr (1, [.null, .null, .null, .int (nI 0), .int (nI 0)]))])) (va_Qv (fun (u : Nat → Nat) => u 0 = h0) (fun u t => va_P D vwCl (pp_WM dA dL u 0 8 (fun _ => 1) (fun _ => 1) (fun _ => 0)) t.heap ∧ va_D (va_A [(h0, .inr (1, [.null, .null, .null, .int (nI 0), .int (nI 0)]))] sz) (pp_WM dA dL u 0 8 (fun _ => 1) (fun _ => 1) (fun _ => 0))) (va_A [(h0, .inr (1, [.null, .null, .null, .int (nI 0), .int (nI 0)]))] sz)) 3 35 (va_A [(h0, .inr (1, [.null, .null, .null, .int (nI 0), .int (nI 0)]))] sz) := by
  refine Met.ofW (cc := cX1_init) (maxL := 1) (ret := none) (by decide) rfl ?_
  intro p e s m args below meth c s₁ B hml hv
  obtain ⟨rfl, hsz, hP, hK, hD0⟩ := hv
  have hx := B.exec
  have hb := B.bytes
  have hr := B.returns
  have hts := atoms_spec (ws := ws_ yX1_init cX1_init 1 none) B.pre
  have hts : ∀ w ∈ lw_all, w.before _ s = true := fun w h => hts w (List.mem_cons_of_mem _ h)
  have hown : s.vm.findClass RX1 = some m.cls := findClass_of_methodNamed B.named
  have hlocks := B.notSynchronized
  have hin : meth.name = "<init>" := (name_of_methodNamed B.named B.method).1
  have hC : pp_CX p m c cX1_init 1 s _ RX1 D dA dL := ⟨⟨hx, hb, hml, hown, hts⟩, hK⟩
  subst hsz
  have hD := hD0.self (sz := s.heap.size)
  generalize hAe : va_A [(h0, .inr (1, [.null, .null, .null, .int (nI 0), .int (nI 0)]))] s.heap.size = A at hD ⊢
  have hA : ∀ q : Nat, s.heap.size ≤ q → A q := fun q h => by rw [← hAe]; exact Or.inr h
  have hS : va_S A s.heap s.heap [] := va_S.rf
  have hl := lv_entry ([.ref h0]) (n := 1) (Nat.le_of_ble_eq_true rfl)
  rw [lg_entry_eq]
  generalize (lg_sl ([.ref h0]) ++ List.replicate (1 - (lg_sl ([.ref h0])).length) Slot.unset).toArray = ls at hl ⊢
  have hl : lv_has ls 1 [(0, .ref h0)] := hl
  refine lv_aload_n hx hb dX1_init_0 rfl (lv_at hl 0 rfl) ?_
  refine W.objInit hx hb hown (hts _ q213) (hts _ q38) (hts _ q39) rfl (by rw [hml]; exact hl.1) rfl dX1_init_1 (Nat.le_of_ble_eq_true rfl) (Nat.le_of_ble_eq_true rfl) ?_
  refine W.eq (g2 := F0 m 4 ls []) rfl ?_
  refine lv_aload_n hx hb dX1_init_4 rfl (lv_at hl 0 rfl) ?_
  refine lv_bipush (v := nI 7) hx hb dX1_init_5 (by decide) ?_
  refine pp_newI (N := 7) (f := fun k => nI ((fun _ => 1) k) - 1) hC hP hD hS hA (fun _ => pn_11) (by decide) (Nat.le_of_ble_eq_true rfl) (Nat.le_of_ble_eq_true rfl) dX1_init_7 (fun q1 H hP hD hS => ?_)
  have hP : va_P D vwCl [(h0, .inr (1, [.null, .null, .null, .int (nI 0), .int (nI 0)])), (q1, .inl (dA, 7, .inl (fun k => nI ((fun _ => 1) k) - 1)))] H := hP
  have hD : va_D A [(h0, .inr (1, [.null, .null, .null, .int (nI 0), .int (nI 0)])), (q1, .inl (dA, 7, .inl (fun k => nI ((fun _ => 1) k) - 1)))] := hD
  refine va_putF (D := D) (ci := 1) (v := .ref q1) (ty := .array .int) (C := RX1) (T := TX1) (N := 5) hx hb hts in_X1 tyX1 tyX1_ok nmX1 hown hK hP hD hS 0 rfl rfl 0 (by decide) (hts _ q214) (fun _ h9 => h9) rfl hin rfl (by decide +kernel) rfl rfl (Nat.le_of_ble_eq_true rfl) dX1_init_9 (fun H locs hP hD hS => ?_)
  have hP : va_P D vwCl [(h0, .inr (1, [.ref q1, .null, .null, .int (nI 0), .int (nI 0)])), (q1, .inl (dA, 7, .inl (fun k => nI ((fun _ => 1) k) - 1)))] H := hP
  have hD : va_D A [(h0, .inr (1, [.ref q1, .null, .null, .int (nI 0), .int (nI 0)])), (q1, .inl (dA, 7, .inl (fun k => nI ((fun _ => 1) k) - 1)))] := hD
  refine lv_aload_n hx hb dX1_init_12 rfl (lv_at hl 0 rfl) ?_
  refine lv_bipush (v := nI 7) hx hb dX1_init_13 (by decide) ?_
  refine pp_newI (N := 7) (f := fun k => nI ((fun _ => 1) k) - 1) hC hP hD hS hA (fun _ => pn_11) (by decide) (Nat.le_of_ble_eq_true rfl) (Nat.le_of_ble_eq_true rfl) dX1_init_15 (fun q2 H hP hD hS => ?_)
  have hP : va_P D vwCl [(h0, .inr (1, [.ref q1, .null, .null, .int (nI 0), .int (nI 0)])), (q1, .inl (dA, 7, .inl (fun k => nI ((fun _ => 1) k) - 1))), (q2, .inl (dA, 7, .inl (fun k => nI ((fun _ => 1) k) - 1)))] H := hP
  have hD : va_D A [(h0, .inr (1, [.ref q1, .null, .null, .int (nI 0), .int (nI 0)])), (q1, .inl (dA, 7, .inl (fun k => nI ((fun _ => 1) k) - 1))), (q2, .inl (dA, 7, .inl (fun k => nI ((fun _ => 1) k) - 1)))] := hD
  refine va_putF (D := D) (ci := 1) (v := .ref q2) (ty := .array .int) (C := RX1) (T := TX1) (N := 5) hx hb hts in_X1 tyX1 tyX1_ok nmX1 hown hK hP hD hS 0 rfl rfl 1 (by decide) (hts _ q215) (fun _ h9 => h9) rfl hin rfl (by decide +kernel) rfl rfl (Nat.le_of_ble_eq_true rfl) dX1_init_17 (fun H locs hP hD hS => ?_)
  have hP : va_P D vwCl [(h0, .inr (1, [.ref q1, .ref q2, .null, .int (nI 0), .int (nI 0)])), (q1, .inl (dA, 7, .inl (fun k => nI ((fun _ => 1) k) - 1))), (q2, .inl (dA, 7, .inl (fun k => nI ((fun _ => 1) k) - 1)))] H := hP
  have hD : va_D A [(h0, .inr (1, [.ref q1, .ref q2, .null, .int (nI 0), .int (nI 0)])), (q1, .inl (dA, 7, .inl (fun k => nI ((fun _ => 1) k) - 1))), (q2, .inl (dA, 7, .inl (fun k => nI ((fun _ => 1) k) - 1)))] := hD
  refine lv_aload_n hx hb dX1_init_20 rfl (lv_at hl 0 rfl) ?_
  refine lv_bipush (v := nI 21) hx hb dX1_init_21 (by decide) ?_
  refine pp_newI (N := 21) (f := fun k => nI ((fun _ => 0) k)) hC hP hD hS hA (fun _ => rfl) (by decide) (Nat.le_of_ble_eq_true rfl) (Nat.le_of_ble_eq_true rfl) dX1_init_23 (fun q3 H hP hD hS => ?_)
  have hP : va_P D vwCl [(h0, .inr (1, [.ref q1, .ref q2, .null, .int (nI 0), .int (nI 0)])), (q1, .inl (dA, 7, .inl (fun k => nI ((fun _ => 1) k) - 1))), (q2, .inl (dA, 7, .inl (fun k => nI ((fun _ => 1) k) - 1))), (q3, .inl (dA, 21, .inl (fun k => nI ((fun _ => 0) k))))] H := hP
  have hD : va_D A [(h0, .inr (1, [.ref q1, .ref q2, .null, .int (nI 0), .int (nI 0)])), (q1, .inl (dA, 7, .inl (fun k => nI ((fun _ => 1) k) - 1))), (q2, .inl (dA, 7, .inl (fun k => nI ((fun _ => 1) k) - 1))), (q3, .inl (dA, 21, .inl (fun k => nI ((fun _ => 0) k))))] := hD
  refine va_putF (D := D) (ci := 1) (v := .ref q3) (ty := .array .int) (C := RX1) (T := TX1) (N := 5) hx hb hts in_X1 tyX1 tyX1_ok nmX1 hown hK hP hD hS 0 rfl rfl 2 (by decide) (hts _ q216) (fun _ h9 => h9) rfl hin rfl (by decide +kernel) rfl rfl (Nat.le_of_ble_eq_true rfl) dX1_init_25 (fun H locs hP hD hS => ?_)
  have hP : va_P D vwCl [(h0, .inr (1, [.ref q1, .ref q2, .ref q3, .int (nI 0), .int (nI 0)])), (q1, .inl (dA, 7, .inl (fun k => nI ((fun _ => 1) k) - 1))), (q2, .inl (dA, 7, .inl (fun k => nI ((fun _ => 1) k) - 1))), (q3, .inl (dA, 21, .inl (fun k => nI ((fun _ => 0) k))))] H := hP
  have hD : va_D A [(h0, .inr (1, [.ref q1, .ref q2, .ref q3, .int (nI 0), .int (nI 0)])), (q1, .inl (dA, 7, .inl (fun k => nI ((fun _ => 1) k) - 1))), (q2, .inl (dA, 7, .inl (fun k => nI ((fun _ => 1) k) - 1))), (q3, .inl (dA, 21, .inl (fun k => nI ((fun _ => 0) k))))] := hD
  refine lv_aload_n hx hb dX1_init_28 rfl (lv_at hl 0 rfl) ?_
  refine lv_bipush (v := nI 8) hx hb dX1_init_29 (by decide) ?_
  refine va_put (D := D) (ci := 1) (v := .int (nI 8)) (ty := .int) (C := RX1) (T := TX1) (N := 5) hx hb hts in_X1 tyX1 tyX1_ok nmX1 hown hK hP hD hS 0 rfl rfl 4 (by decide) (hts _ q218) (fun _ h9 => h9) rfl (by decide +kernel) rfl rfl (Nat.le_of_ble_eq_true rfl) dX1_init_31 (fun H locs hP hD hS => ?_)
  have hP : va_P D vwCl [(h0, .inr (1, [.ref q1, .ref q2, .ref q3, .int (nI 0), .int (nI 8)])), (q1, .inl (dA, 7, .inl (fun k => nI ((fun _ => 1) k) - 1))), (q2, .inl (dA, 7, .inl (fun k => nI ((fun _ => 1) k) - 1))), (q3, .inl (dA, 21, .inl (fun k => nI ((fun _ => 0) k))))] H := hP
  have hD : va_D A [(h0, .inr (1, [.ref q1, .ref q2, .ref q3, .int (nI 0), .int (nI 8)])), (q1, .inl (dA, 7, .inl (fun k => nI ((fun _ => 1) k) - 1))), (q2, .inl (dA, 7, .inl (fun k => nI ((fun _ => 1) k) - 1))), (q3, .inl (dA, 21, .inl (fun k => nI ((fun _ => 0) k))))] := hD
  refine W.widen (k := 3) (n := 35) (Nat.le_of_ble_eq_true rfl) (Nat.le_of_ble_eq_true rfl) ?_
  exact W.vret hx hb hr (fun t ht hW => ⟨⟨(fun k => match k with | 0 => h0 | 1 => q1 | 2 => q2 | _ => q3), rfl, rfl, by show va_P D vwCl [(h0, .inr (1, [.ref q1, .ref q2, .ref q3, .int (nI 0), .int (nI 8)])), (q1, .inl (dA, 7, .inl (fun k => nI ((fun _ => 1) k) - 1))), (q2, .inl (dA, 7, .inl (fun k => nI ((fun _ => 1) k) - 1))), (q3, .inl (dA, 21, .inl (fun k => nI ((fun _ => 0) k))))] t.heap; rw [ht]; exact hP, hD⟩, hS.F ht⟩) hS.2.2 dX1_init_34
end
section
theorem pn_inc5 (a : Nat) : nI a + Int32.ofInt 5 = nI (a + 5) := by
  rw [show Int32.ofInt 5 = nI 5 from by decide, nI_add]
theorem pn_lt5 {n i : Nat} (hn : n ≤ 320) (hi : i ≤ 1000) : nI n - nI 5 < nI i ↔ n < i + 5 := by
  rw [Int32.lt_iff_toInt_lt, pk_sub_toInt (by omega) (by decide), nI_toInt (by omega)]
  omega
section PSL
variable {p : Program} {l : Launch} {e : Env} {R : Room} {s : State} {m : MethodId} {args : Array Value} {below : List Frame} {meth : Method} {c : Code} {H : Heap} {locs : List Loc} {cells slots : Nat} {Q : State → Prop}
variable {cc : ByteArray} {pc nL : Nat} {ls : Array Slot} {rest : List Value}
variable {D : va_G} {dA dL : ClassId} {adx adm : Nat → Nat} {A : Nat → Prop} {H0 : Heap}
theorem pp_sld (hx : p.tables.exec = Jvm.exec) (hb : c.code = cc) {b n : Nat} {xs : Nat → Int32} (hX : va_X b n xs s H0) (hbl : b < H0.size) (hbA : ¬ A b) (hS : va_S A H0 H locs) {i : Nat} (hi : i < n) (hL : n ≤ 320) (hdg : decode cc pc = .ok (.iaload, 1)) (k : W p l e R s m args below meth c H locs cells slots Q (F0 m (pc + 1) ls (.int (xs i) :: rest))) : W p l e R s m args below meth c H locs cells slots Q (F0 m pc ls (.int (nI i) :: .ref b :: rest)) := by
  refine va_sld hx hb hX hbl hbA hS (vp_in_nI hi (by omega)) hdg ?_
  rw [nI_clamp (by omega)]
  exact k
end PSL
theorem pp_keepM {D : va_G} {dA dL : ClassId} {adx adm : Nat → Nat} {A : Nat → Prop} {H0 H H1 : Heap} {locs locs1 : List Loc} {cn qq : Nat} {mq fq sn : Nat → Nat} (hM : pp_IM D dA dL adm A H0 cn qq mq fq sn H locs) (hS : va_S A H0 H1 locs1) (hk : ∀ q : Nat, q < H.size → ¬ pp_AX adx q → H1[q]? = H[q]?) (hap : ∀ q, pp_AX adx q → ¬ pp_AM adm q) : pp_IM D dA dL adm A H0 cn qq mq fq sn H1 locs1 :=
  ⟨hM.1.kept (fun k q hq => hk q.1 (hM.1 k q hq).lt (fun z => hap _ z ((pp_D_in _ hM.2.1 rfl).2 k q hq))), hM.2.1, hS⟩
theorem pp_keepX {D : va_G} {dA dL : ClassId} {adx adm : Nat → Nat} {A : Nat → Prop} {H0 H H1 : Heap} {locs locs1 : List Loc} {cn qq : Nat} {mq fq sn al : Nat → Nat} {ow tb us : Nat} {sc bg : Nat → Nat} {ce : Nat → Int64} {ge : Nat → Nat} (hX : pp_IX D dA dL adx A H0 cn qq mq fq sn al ow tb us sc bg ce ge H locs) (hS : va_S A H0 H1 locs1) (hk : ∀ q : Nat, q < H.size → ¬ pp_AM adm q → H1[q]? = H[q]?) (hap : ∀ q, pp_AX adx q → ¬ pp_AM adm q) : pp_IX D dA dL adx A H0 cn qq mq fq sn al ow tb us sc bg ce ge H1 locs1 :=
  ⟨hX.1.kept (fun k q hq => hk q.1 (hX.1 k q hq).lt (hap _ ((pp_D_in _ hX.2.1 rfl).2 k q hq))), hX.2.1, hS⟩
/-- what holds between two calls -/
def pp_LI (D : va_G) (dA dL : ClassId) (adx adm : Nat → Nat) (A : Nat → Prop) (H0 : Heap) (cn qq : Nat) (mq fq sn : Nat → Nat) (H : Heap) (locs : List Loc) : Prop :=
  pp_ok cn qq mq fq sn ∧ (∀ q, pp_AX adx q → ¬ pp_AM adm q) ∧ pp_IM D dA dL adm A H0 cn qq mq fq sn H locs ∧ ∃ (al : Nat → Nat) (ow tb us : Nat) (sc bg : Nat → Nat) (ce : Nat → Int64) (ge : Nat → Nat), pp_G ge ∧ pp_IX D dA dL adx A H0 cn qq mq fq sn al ow tb us sc bg ce ge H locs
theorem pp_ok_add {cn qq : Nat} {mq fq sn : Nat → Nat} {v1 v2 : Nat} {r : Int32} {u : Nat × (Nat → Nat) × (Nat → Nat) × (Nat → Nat)} (h : pp_ok cn qq mq fq sn) (hv : (v1 = 0 ∧ v2 = 0) ∨ (0 < v1 ∧ v1 ≤ cn ∧ 0 < v2 ∧ v2 ≤ cn ∧ v1 ≠ v2)) (hu : (r, u) = pp_fadd cn mq fq sn v1 v2) : pp_ok u.1 qq u.2.1 u.2.2.1 u.2.2.2 := by
  obtain ⟨h1, h2, h3, h4⟩ := h
  unfold pp_fadd at hu
  by_cases hc : cn = 7
  · rw [if_pos hc] at hu
    rw [(Prod.mk.inj hu).2]
    exact ⟨h1, h2, h3, h4⟩
  · rw [if_neg hc] at hu
    rw [(Prod.mk.inj hu).2]
    refine ⟨show cn + 1 ≤ 7 by omega, h2, fun k => ?_, fun q hq => ?_⟩
    · show pp_sn3 sn cn 3 k ≤ 5
      unfold pp_sn3
      split
      · decide
      · exact h3 k
    · have hq : q < cn + 1 := hq
      show (va_up mq cn v1 q = 0 ∧ va_up fq cn v2 q = 0) ∨ (0 < va_up mq cn v1 q ∧ va_up mq cn v1 q ≤ q ∧ 0 < va_up fq cn v2 q ∧ va_up fq cn v2 q ≤ q ∧ va_up mq cn v1 q ≠ va_up fq cn v2 q)
      by_cases e : q = cn
      · subst e
        rw [pp_up_self, pp_up_self]
        exact hv
      · rw [pp_up_ne _ _ e, pp_up_ne _ _ e]
        exact h4 q (by omega)
theorem pp_ok_child {cn qq : Nat} {mq fq sn : Nat → Nat} {x y : Int32} {r : Int32} {u : Nat × (Nat → Nat) × (Nat → Nat) × (Nat → Nat)} (h : pp_ok cn qq mq fq sn) (hu : (r, u) = pp_fchild cn mq fq sn x y) : pp_ok u.1 qq u.2.1 u.2.2.1 u.2.2.2 := by
  unfold pp_fchild at hu
  by_cases hc : pp_bad cn x = 0 ∧ pp_bad cn y = 0 ∧ ¬ x = y
  · rw [if_pos hc] at hu
    have hx := pp_bad_0 hc.1 h.1
    have hy := pp_bad_0 hc.2.1 h.1
    refine pp_ok_add h (Or.inr ⟨by omega, by omega, by omega, by omega, fun z => hc.2.2 ?_⟩) hu
    rw [hx.1, hy.1, show pp_j x = pp_j y by omega]
  · rw [if_neg hc] at hu
    rw [(Prod.mk.inj hu).2]
    exact h
theorem pp_ok_rem {cn qq : Nat} {mq fq sn : Nat → Nat} {r : Int32} {u : Nat} (h : pp_ok cn qq mq fq sn) (hu : (r, u) = pp_frem cn) : pp_ok u qq mq fq sn := by
  obtain ⟨h1, h2, h3, h4⟩ := h
  unfold pp_frem at hu
  by_cases hc : cn = 0
  · rw [if_pos hc] at hu
    rw [(Prod.mk.inj hu).2]
    exact ⟨h1, h2, h3, h4⟩
  · rw [if_neg hc] at hu
    rw [(Prod.mk.inj hu).2]
    exact ⟨by omega, h2, h3, fun q hq => h4 q (by omega)⟩
theorem pp_ok_freq {cn qq : Nat} {mq fq sn : Nat → Nat} {x r : Int32} {u : Nat} (h : pp_ok cn qq mq fq sn) (hu : (r, u) = pp_ffreq qq x) : pp_ok cn u mq fq sn := by
  obtain ⟨h1, h2, h3, h4⟩ := h
  unfold pp_ffreq at hu
  by_cases hc : ¬ x < 0 ∧ x ≤ nI 16
  · rw [if_pos hc] at hu
    rw [(Prod.mk.inj hu).2]
    exact ⟨h1, pp_jle (by decide) hc.1 hc.2, h3, h4⟩
  · rw [if_neg hc] at hu
    rw [(Prod.mk.inj hu).2]
    exact ⟨h1, h2, h3, h4⟩
theorem pp_ok_see {cn qq : Nat} {mq fq sn : Nat → Nat} {x y z r : Int32} {u : Nat → Nat} (h : pp_ok cn qq mq fq sn) (hu : (r, u) = pp_fsee cn sn x y z) : pp_ok cn qq mq fq u := by
  obtain ⟨h1, h2, h3, h4⟩ := h
  unfold pp_fsee at hu
  by_cases hc : pp_bad cn x = 0 ∧ pp_bdg y = 0 ∧ ¬ z < 0 ∧ z ≤ nI 5
  · rw [if_pos hc] at hu
    rw [(Prod.mk.inj hu).2]
    refine ⟨h1, h2, fun k => ?_, h4⟩
    by_cases e : k = 3 * pp_j x + pp_j y
    · rw [e, pp_up_self]; exact pp_jle (by decide) hc.2.2.1 hc.2.2.2
    · rw [pp_up_ne _ _ e]; exact h3 k
  · rw [if_neg hc] at hu
    rw [(Prod.mk.inj hu).2]
    exact ⟨h1, h2, h3, h4⟩
end
section
section PLC
variable {p : Program} {l : Launch} {e : Env} {R : Room} {s : State} {m : MethodId} {args : Array Value} {below : List Frame} {meth : Method} {c : Code} {H : Heap} {locs : List Loc} {cells slots : Nat} {Q : State → Prop}
variable {cc : ByteArray} {pc nL : Nat} {ls : Array Slot} {rest : List Value}
variable {D : va_G} {dA dL : ClassId} {adx adm : Nat → Nat} {A : Nat → Prop} {H0 : Heap} {cn qq : Nat} {mq fq sn : Nat → Nat}
set_option maxHeartbeats 4000000 in
set_option maxRecDepth 100000 in
theorem law_c0 (hC : pp_CX p m c cL_law 4 s args R_law D dA dL) (hR : pp_RM R cells slots 6 152) {b n i : Nat} {xs : Nat → Int32} (hX : va_X b n xs s H0) (hbl : b < H0.size) (hbA : ¬ A b) (hL : n ≤ 320) (hi : i + 5 ≤ n) (hI : pp_LI D dA dL adx adm A H0 cn qq mq fq sn H locs) (hl : lv_has ls 4 [(0, .ref b), (1, .ref (adx 0)), (2, .ref (adm 0)), (3, .int (nI i))]) (kk : ∀ (cn qq : Nat) (mq fq sn : Nat → Nat) (H : Heap) (locs : List Loc), pp_LI D dA dL adx adm A H0 cn qq mq fq sn H locs → W p l e R s m args below meth c H locs cells slots Q (F0 m 453 ls [])) : W p l e R s m args below meth c H locs cells slots Q (F0 m 100 ls []) := by
  have hx := hC.1.1
  have hb := hC.1.2.1
  obtain ⟨hok, hap, hwM, al, ow, tb, us, sc, bg, ce, ge, hG, hwX⟩ := hI
  refine lv_aload_n hx hb dL_law_100 rfl (lv_at hl 1 rfl) ?_
  refine xcL_founder hC hwX hok.1 (hR.le (by decide) (by decide)) hl.1 (Nat.le_of_ble_eq_true rfl) dL_law_101 (fun r u H locs hru hwX hk => ?_)
  have hwM := pp_keepM hwM hwX.2.2 hk hap
  refine lv_aload_n hx hb dL_law_104 rfl (lv_at hl 2 rfl) ?_
  refine mcL_founder hC hwM hok.1 (hR.le (by decide) (by decide)) hl.1 (Nat.le_of_ble_eq_true rfl) dL_law_105 (fun r2 u2 H locs hru2 hwM hk => ?_)
  have hwX := pp_keepX hwX hwM.2.2 hk hap
  refine lv_icmp_eq (tgt := 453) hx hb dL_law_108 (by decide) (fun h1 => ?_) (fun h1 => ?_)
  · have hru : (r, u) = pp_fadd cn mq fq sn 0 0 := hru
    have hru2 : (r2, u2) = pp_fadd cn mq fq sn 0 0 := hru2
    obtain rfl : u = u2 := congrArg Prod.snd (hru.trans hru2.symm)
    exact kk _ _ _ _ _ H locs ⟨pp_ok_add hok (Or.inl ⟨rfl, rfl⟩) hru, hap, hwM, al, ow, tb, us, sc, bg, ce, ge, hG, hwX⟩
  · have hru : (r, u) = pp_fadd cn mq fq sn 0 0 := hru
    have hru2 : (r2, u2) = pp_fadd cn mq fq sn 0 0 := hru2
    exact absurd (congrArg Prod.fst (hru.trans hru2.symm)) h1
set_option maxHeartbeats 4000000 in
set_option maxRecDepth 100000 in
theorem law_c1 (hC : pp_CX p m c cL_law 4 s args R_law D dA dL) (hR : pp_RM R cells slots 6 152) {b n i : Nat} {xs : Nat → Int32} (hX : va_X b n xs s H0) (hbl : b < H0.size) (hbA : ¬ A b) (hL : n ≤ 320) (hi : i + 5 ≤ n) (hI : pp_LI D dA dL adx adm A H0 cn qq mq fq sn H locs) (hl : lv_has ls 4 [(0, .ref b), (1, .ref (adx 0)), (2, .ref (adm 0)), (3, .int (nI i))]) (kk : ∀ (cn qq : Nat) (mq fq sn : Nat → Nat) (H : Heap) (locs : List Loc), pp_LI D dA dL adx adm A H0 cn qq mq fq sn H locs → W p l e R s m args below meth c H locs cells slots Q (F0 m 453 ls [])) : W p l e R s m args below meth c H locs cells slots Q (F0 m 113 ls []) := by
  have hx := hC.1.1
  have hb := hC.1.2.1
  obtain ⟨hok, hap, hwM, al, ow, tb, us, sc, bg, ce, ge, hG, hwX⟩ := hI
  refine lv_aload_n hx hb dL_law_113 rfl (lv_at hl 1 rfl) ?_
  refine lv_aload_n hx hb dL_law_114 rfl (lv_at hl 0 rfl) ?_
  refine lv_iload_n hx hb dL_law_115 rfl (lv_at hl 3 rfl) ?_
  refine lv_iconst (v := (nI 1)) hx hb dL_law_116 (by decide) ?_
  refine nr_add hx hb dL_law_117 ?_
  refine pp_sld hx hb hX hbl hbA hwX.2.2 (by omega) hL dL_law_118 ?_
  refine lv_aload_n hx hb dL_law_119 rfl (lv_at hl 0 rfl) ?_
  refine lv_iload_n hx hb dL_law_120 rfl (lv_at hl 3 rfl) ?_
  refine lv_iconst (v := (nI 2)) hx hb dL_law_121 (by decide) ?_
  refine nr_add hx hb dL_law_122 ?_
  refine pp_sld hx hb hX hbl hbA hwX.2.2 (by omega) hL dL_law_123 ?_
  refine xcL_child hC hwX hok.1 (hR.le (by decide) (by decide)) hl.1 (Nat.le_of_ble_eq_true rfl) dL_law_124 (fun r u H locs hru hwX hk => ?_)
  have hwM := pp_keepM hwM hwX.2.2 hk hap
  refine lv_aload_n hx hb dL_law_127 rfl (lv_at hl 2 rfl) ?_
  refine lv_aload_n hx hb dL_law_128 rfl (lv_at hl 0 rfl) ?_
  refine lv_iload_n hx hb dL_law_129 rfl (lv_at hl 3 rfl) ?_
  refine lv_iconst (v := (nI 1)) hx hb dL_law_130 (by decide) ?_
  refine nr_add hx hb dL_law_131 ?_
  refine pp_sld hx hb hX hbl hbA hwX.2.2 (by omega) hL dL_law_132 ?_
  refine lv_aload_n hx hb dL_law_133 rfl (lv_at hl 0 rfl) ?_
  refine lv_iload_n hx hb dL_law_134 rfl (lv_at hl 3 rfl) ?_
  refine lv_iconst (v := (nI 2)) hx hb dL_law_135 (by decide) ?_
  refine nr_add hx hb dL_law_136 ?_
  refine pp_sld hx hb hX hbl hbA hwX.2.2 (by omega) hL dL_law_137 ?_
  refine mcL_child hC hwM hok.1 (hR.le (by decide) (by decide)) hl.1 (Nat.le_of_ble_eq_true rfl) dL_law_138 (fun r2 u2 H locs hru2 hwM hk => ?_)
  have hwX := pp_keepX hwX hwM.2.2 hk hap
  refine lv_icmp_eq (tgt := 453) hx hb dL_law_141 (by decide) (fun h1 => ?_) (fun h1 => ?_)
  · have hru : (r, u) = pp_fchild cn mq fq sn (xs (i + 1)) (xs (i + 2)) := hru
    have hru2 : (r2, u2) = pp_fchild cn mq fq sn (xs (i + 1)) (xs (i + 2)) := hru2
    obtain rfl : u = u2 := congrArg Prod.snd (hru.trans hru2.symm)
    exact kk _ _ _ _ _ H locs ⟨pp_ok_child hok hru, hap, hwM, al, ow, tb, us, sc, bg, ce, ge, hG, hwX⟩
  · have hru : (r, u) = pp_fchild cn mq fq sn (xs (i + 1)) (xs (i + 2)) := hru
    have hru2 : (r2, u2) = pp_fchild cn mq fq sn (xs (i + 1)) (xs (i + 2)) := hru2
    exact absurd (congrArg Prod.fst (hru.trans hru2.symm)) h1
set_option maxHeartbeats 4000000 in
set_option maxRecDepth 100000 in
theorem law_c2 (hC : pp_CX p m c cL_law 4 s args R_law D dA dL) (hR : pp_RM R cells slots 6 152) {b n i : Nat} {xs : Nat → Int32} (hX : va_X b n xs s H0) (hbl : b < H0.size) (hbA : ¬ A b) (hL : n ≤ 320) (hi : i + 5 ≤ n) (hI : pp_LI D dA dL adx adm A H0 cn qq mq fq sn H locs) (hl : lv_has ls 4 [(0, .ref b), (1, .ref (adx 0)), (2, .ref (adm 0)), (3, .int (nI i))]) (kk : ∀ (cn qq : Nat) (mq fq sn : Nat → Nat) (H : Heap) (locs : List Loc), pp_LI D dA dL adx adm A H0 cn qq mq fq sn H locs → W p l e R s m args below meth c H locs cells slots Q (F0 m 453 ls [])) : W p l e R s m args below meth c H locs cells slots Q (F0 m 146 ls []) := by
  have hx := hC.1.1
  have hb := hC.1.2.1
  obtain ⟨hok, hap, hwM, al, ow, tb, us, sc, bg, ce, ge, hG, hwX⟩ := hI
  refine lv_aload_n hx hb dL_law_146 rfl (lv_at hl 1 rfl) ?_
  refine xcL_remove hC hwX hok.1 (hR.le (by decide) (by decide)) hl.1 (Nat.le_of_ble_eq_true rfl) dL_law_147 (fun r u H locs hru hwX hk => ?_)
  have hwM := pp_keepM hwM hwX.2.2 hk hap
  refine lv_aload_n hx hb dL_law_150 rfl (lv_at hl 2 rfl) ?_
  refine mcL_remove hC hwM hok.1 (hR.le (by decide) (by decide)) hl.1 (Nat.le_of_ble_eq_true rfl) dL_law_151 (fun r2 u2 H locs hru2 hwM hk => ?_)
  have hwX := pp_keepX hwX hwM.2.2 hk hap
  refine lv_icmp_eq (tgt := 453) hx hb dL_law_154 (by decide) (fun h1 => ?_) (fun h1 => ?_)
  · have hru : (r, u) = pp_frem cn := hru
    have hru2 : (r2, u2) = pp_frem cn := hru2
    obtain rfl : u = u2 := congrArg Prod.snd (hru.trans hru2.symm)
    exact kk _ _ _ _ _ H locs ⟨pp_ok_rem hok hru, hap, hwM, al, ow, tb, us, sc, bg, ce, ge, hG, hwX⟩
  · have hru : (r, u) = pp_frem cn := hru
    have hru2 : (r2, u2) = pp_frem cn := hru2
    exact absurd (congrArg Prod.fst (hru.trans hru2.symm)) h1
set_option maxHeartbeats 4000000 in
set_option maxRecDepth 100000 in
theorem law_c3 (hC : pp_CX p m c cL_law 4 s args R_law D dA dL) (hR : pp_RM R cells slots 6 152) {b n i : Nat} {xs : Nat → Int32} (hX : va_X b n xs s H0) (hbl : b < H0.size) (hbA : ¬ A b) (hL : n ≤ 320) (hi : i + 5 ≤ n) (hI : pp_LI D dA dL adx adm A H0 cn qq mq fq sn H locs) (hl : lv_has ls 4 [(0, .ref b), (1, .ref (adx 0)), (2, .ref (adm 0)), (3, .int (nI i))]) (kk : ∀ (cn qq : Nat) (mq fq sn : Nat → Nat) (H : Heap) (locs : List Loc), pp_LI D dA dL adx adm A H0 cn qq mq fq sn H locs → W p l e R s m args below meth c H locs cells slots Q (F0 m 453 ls [])) : W p l e R s m args below meth c H locs cells slots Q (F0 m 159 ls []) := by
  have hx := hC.1.1
  have hb := hC.1.2.1
  obtain ⟨hok, hap, hwM, al, ow, tb, us, sc, bg, ce, ge, hG, hwX⟩ := hI
  refine lv_aload_n hx hb dL_law_159 rfl (lv_at hl 1 rfl) ?_
  refine xcL_persons hC hwX  (hR.le (by decide) (by decide)) hl.1 (Nat.le_of_ble_eq_true rfl) dL_law_160 ?_
  refine lv_aload_n hx hb dL_law_163 rfl (lv_at hl 2 rfl) ?_
  refine mcL_persons hC hwM  (hR.le (by decide) (by decide)) hl.1 (Nat.le_of_ble_eq_true rfl) dL_law_164 ?_
  refine lv_icmp_eq (tgt := 453) hx hb dL_law_167 (by decide) (fun h1 => ?_) (fun h1 => ?_)
  · exact kk _ _ _ _ _ H locs ⟨hok, hap, hwM, al, ow, tb, us, sc, bg, ce, ge, hG, hwX⟩
  · exact absurd rfl h1
set_option maxHeartbeats 4000000 in
set_option maxRecDepth 100000 in
theorem law_c4 (hC : pp_CX p m c cL_law 4 s args R_law D dA dL) (hR : pp_RM R cells slots 6 152) {b n i : Nat} {xs : Nat → Int32} (hX : va_X b n xs s H0) (hbl : b < H0.size) (hbA : ¬ A b) (hL : n ≤ 320) (hi : i + 5 ≤ n) (hI : pp_LI D dA dL adx adm A H0 cn qq mq fq sn H locs) (hl : lv_has ls 4 [(0, .ref b), (1, .ref (adx 0)), (2, .ref (adm 0)), (3, .int (nI i))]) (kk : ∀ (cn qq : Nat) (mq fq sn : Nat → Nat) (H : Heap) (locs : List Loc), pp_LI D dA dL adx adm A H0 cn qq mq fq sn H locs → W p l e R s m args below meth c H locs cells slots Q (F0 m 453 ls [])) : W p l e R s m args below meth c H locs cells slots Q (F0 m 172 ls []) := by
  have hx := hC.1.1
  have hb := hC.1.2.1
  obtain ⟨hok, hap, hwM, al, ow, tb, us, sc, bg, ce, ge, hG, hwX⟩ := hI
  refine lv_aload_n hx hb dL_law_172 rfl (lv_at hl 1 rfl) ?_
  refine lv_aload_n hx hb dL_law_173 rfl (lv_at hl 0 rfl) ?_
  refine lv_iload_n hx hb dL_law_174 rfl (lv_at hl 3 rfl) ?_
  refine lv_iconst (v := (nI 1)) hx hb dL_law_175 (by decide) ?_
  refine nr_add hx hb dL_law_176 ?_
  refine pp_sld hx hb hX hbl hbA hwX.2.2 (by omega) hL dL_law_177 ?_
  refine xcL_frequency hC hwX  (hR.le (by decide) (by decide)) hl.1 (Nat.le_of_ble_eq_true rfl) dL_law_178 (fun r u H locs hru hwX hk => ?_)
  have hwM := pp_keepM hwM hwX.2.2 hk hap
  refine lv_aload_n hx hb dL_law_181 rfl (lv_at hl 2 rfl) ?_
  refine lv_aload_n hx hb dL_law_182 rfl (lv_at hl 0 rfl) ?_
  refine lv_iload_n hx hb dL_law_183 rfl (lv_at hl 3 rfl) ?_
  refine lv_iconst (v := (nI 1)) hx hb dL_law_184 (by decide) ?_
  refine nr_add hx hb dL_law_185 ?_
  refine pp_sld hx hb hX hbl hbA hwX.2.2 (by omega) hL dL_law_186 ?_
  refine mcL_frequency hC hwM  (hR.le (by decide) (by decide)) hl.1 (Nat.le_of_ble_eq_true rfl) dL_law_187 (fun r2 u2 H locs hru2 hwM hk => ?_)
  have hwX := pp_keepX hwX hwM.2.2 hk hap
  refine lv_icmp_eq (tgt := 453) hx hb dL_law_190 (by decide) (fun h1 => ?_) (fun h1 => ?_)
  · have hru : (r, u) = pp_ffreq qq (xs (i + 1)) := hru
    have hru2 : (r2, u2) = pp_ffreq qq (xs (i + 1)) := hru2
    obtain rfl : u = u2 := congrArg Prod.snd (hru.trans hru2.symm)
    exact kk _ _ _ _ _ H locs ⟨pp_ok_freq hok hru, hap, hwM, al, ow, tb, us, sc, bg, ce, ge, hG, hwX⟩
  · have hru : (r, u) = pp_ffreq qq (xs (i + 1)) := hru
    have hru2 : (r2, u2) = pp_ffreq qq (xs (i + 1)) := hru2
    exact absurd (congrArg Prod.fst (hru.trans hru2.symm)) h1
set_option maxHeartbeats 4000000 in
set_option maxRecDepth 100000 in
theorem law_c5 (hC : pp_CX p m c cL_law 4 s args R_law D dA dL) (hR : pp_RM R cells slots 6 152) {b n i : Nat} {xs : Nat → Int32} (hX : va_X b n xs s H0) (hbl : b < H0.size) (hbA : ¬ A b) (hL : n ≤ 320) (hi : i + 5 ≤ n) (hI : pp_LI D dA dL adx adm A H0 cn qq mq fq sn H locs) (hl : lv_has ls 4 [(0, .ref b), (1, .ref (adx 0)), (2, .ref (adm 0)), (3, .int (nI i))]) (kk : ∀ (cn qq : Nat) (mq fq sn : Nat → Nat) (H : Heap) (locs : List Loc), pp_LI D dA dL adx adm A H0 cn qq mq fq sn H locs → W p l e R s m args below meth c H locs cells slots Q (F0 m 453 ls [])) : W p l e R s m args below meth c H locs cells slots Q (F0 m 195 ls []) := by
  have hx := hC.1.1
  have hb := hC.1.2.1
  obtain ⟨hok, hap, hwM, al, ow, tb, us, sc, bg, ce, ge, hG, hwX⟩ := hI
  refine lv_aload_n hx hb dL_law_195 rfl (lv_at hl 1 rfl) ?_
  refine lv_aload_n hx hb dL_law_196 rfl (lv_at hl 0 rfl) ?_
  refine lv_iload_n hx hb dL_law_197 rfl (lv_at hl 3 rfl) ?_
  refine lv_iconst (v := (nI 1)) hx hb dL_law_198 (by decide) ?_
  refine nr_add hx hb dL_law_199 ?_
  refine pp_sld hx hb hX hbl hbA hwX.2.2 (by omega) hL dL_law_200 ?_
  refine lv_aload_n hx hb dL_law_201 rfl (lv_at hl 0 rfl) ?_
  refine lv_iload_n hx hb dL_law_202 rfl (lv_at hl 3 rfl) ?_
  refine lv_iconst (v := (nI 2)) hx hb dL_law_203 (by decide) ?_
  refine nr_add hx hb dL_law_204 ?_
  refine pp_sld hx hb hX hbl hbA hwX.2.2 (by omega) hL dL_law_205 ?_
  refine lv_aload_n hx hb dL_law_206 rfl (lv_at hl 0 rfl) ?_
  refine lv_iload_n hx hb dL_law_207 rfl (lv_at hl 3 rfl) ?_
  refine lv_iconst (v := (nI 3)) hx hb dL_law_208 (by decide) ?_
  refine nr_add hx hb dL_law_209 ?_
  refine pp_sld hx hb hX hbl hbA hwX.2.2 (by omega) hL dL_law_210 ?_
  refine xcL_see hC hwX hok.1 (hR.le (by decide) (by decide)) hl.1 (Nat.le_of_ble_eq_true rfl) dL_law_211 (fun r u H locs hru hwX hk => ?_)
  have hwM := pp_keepM hwM hwX.2.2 hk hap
  refine lv_aload_n hx hb dL_law_214 rfl (lv_at hl 2 rfl) ?_
  refine lv_aload_n hx hb dL_law_215 rfl (lv_at hl 0 rfl) ?_
  refine lv_iload_n hx hb dL_law_216 rfl (lv_at hl 3 rfl) ?_
  refine lv_iconst (v := (nI 1)) hx hb dL_law_217 (by decide) ?_
  refine nr_add hx hb dL_law_218 ?_
  refine pp_sld hx hb hX hbl hbA hwX.2.2 (by omega) hL dL_law_219 ?_
  refine lv_aload_n hx hb dL_law_220 rfl (lv_at hl 0 rfl) ?_
  refine lv_iload_n hx hb dL_law_221 rfl (lv_at hl 3 rfl) ?_
  refine lv_iconst (v := (nI 2)) hx hb dL_law_222 (by decide) ?_
  refine nr_add hx hb dL_law_223 ?_
  refine pp_sld hx hb hX hbl hbA hwX.2.2 (by omega) hL dL_law_224 ?_
  refine lv_aload_n hx hb dL_law_225 rfl (lv_at hl 0 rfl) ?_
  refine lv_iload_n hx hb dL_law_226 rfl (lv_at hl 3 rfl) ?_
  refine lv_iconst (v := (nI 3)) hx hb dL_law_227 (by decide) ?_
  refine nr_add hx hb dL_law_228 ?_
  refine pp_sld hx hb hX hbl hbA hwX.2.2 (by omega) hL dL_law_229 ?_
  refine mcL_see hC hwM hok.1 (hR.le (by decide) (by decide)) hl.1 (Nat.le_of_ble_eq_true rfl) dL_law_230 (fun r2 u2 H locs hru2 hwM hk => ?_)
  have hwX := pp_keepX hwX hwM.2.2 hk hap
  refine lv_icmp_eq (tgt := 453) hx hb dL_law_233 (by decide) (fun h1 => ?_) (fun h1 => ?_)
  · have hru : (r, u) = pp_fsee cn sn (xs (i + 1)) (xs (i + 2)) (xs (i + 3)) := hru
    have hru2 : (r2, u2) = pp_fsee cn sn (xs (i + 1)) (xs (i + 2)) (xs (i + 3)) := hru2
    obtain rfl : u = u2 := congrArg Prod.snd (hru.trans hru2.symm)
    exact kk _ _ _ _ _ H locs ⟨pp_ok_see hok hru, hap, hwM, al, ow, tb, us, sc, bg, ce, ge, hG, hwX⟩
  · have hru : (r, u) = pp_fsee cn sn (xs (i + 1)) (xs (i + 2)) (xs (i + 3)) := hru
    have hru2 : (r2, u2) = pp_fsee cn sn (xs (i + 1)) (xs (i + 2)) (xs (i + 3)) := hru2
    exact absurd (congrArg Prod.fst (hru.trans hru2.symm)) h1
set_option maxHeartbeats 4000000 in
set_option maxRecDepth 100000 in
theorem law_c6 (hC : pp_CX p m c cL_law 4 s args R_law D dA dL) (hR : pp_RM R cells slots 6 152) {b n i : Nat} {xs : Nat → Int32} (hX : va_X b n xs s H0) (hbl : b < H0.size) (hbA : ¬ A b) (hL : n ≤ 320) (hi : i + 5 ≤ n) (hI : pp_LI D dA dL adx adm A H0 cn qq mq fq sn H locs) (hl : lv_has ls 4 [(0, .ref b), (1, .ref (adx 0)), (2, .ref (adm 0)), (3, .int (nI i))]) (kk : ∀ (cn qq : Nat) (mq fq sn : Nat → Nat) (H : Heap) (locs : List Loc), pp_LI D dA dL adx adm A H0 cn qq mq fq sn H locs → W p l e R s m args below meth c H locs cells slots Q (F0 m 453 ls [])) : W p l e R s m args below meth c H locs cells slots Q (F0 m 238 ls []) := by
  have hx := hC.1.1
  have hb := hC.1.2.1
  obtain ⟨hok, hap, hwM, al, ow, tb, us, sc, bg, ce, ge, hG, hwX⟩ := hI
  refine lv_aload_n hx hb dL_law_238 rfl (lv_at hl 1 rfl) ?_
  refine lv_aload_n hx hb dL_law_239 rfl (lv_at hl 0 rfl) ?_
  refine lv_iload_n hx hb dL_law_240 rfl (lv_at hl 3 rfl) ?_
  refine lv_iconst (v := (nI 1)) hx hb dL_law_241 (by decide) ?_
  refine nr_add hx hb dL_law_242 ?_
  refine pp_sld hx hb hX hbl hbA hwX.2.2 (by omega) hL dL_law_243 ?_
  refine lv_aload_n hx hb dL_law_244 rfl (lv_at hl 0 rfl) ?_
  refine lv_iload_n hx hb dL_law_245 rfl (lv_at hl 3 rfl) ?_
  refine lv_iconst (v := (nI 2)) hx hb dL_law_246 (by decide) ?_
  refine nr_add hx hb dL_law_247 ?_
  refine pp_sld hx hb hX hbl hbA hwX.2.2 (by omega) hL dL_law_248 ?_
  refine xcL_seen hC hwX hok.1 (hR.le (by decide) (by decide)) hl.1 (Nat.le_of_ble_eq_true rfl) dL_law_249 ?_
  refine lv_aload_n hx hb dL_law_252 rfl (lv_at hl 2 rfl) ?_
  refine lv_aload_n hx hb dL_law_253 rfl (lv_at hl 0 rfl) ?_
  refine lv_iload_n hx hb dL_law_254 rfl (lv_at hl 3 rfl) ?_
  refine lv_iconst (v := (nI 1)) hx hb dL_law_255 (by decide) ?_
  refine nr_add hx hb dL_law_256 ?_
  refine pp_sld hx hb hX hbl hbA hwX.2.2 (by omega) hL dL_law_257 ?_
  refine lv_aload_n hx hb dL_law_258 rfl (lv_at hl 0 rfl) ?_
  refine lv_iload_n hx hb dL_law_259 rfl (lv_at hl 3 rfl) ?_
  refine lv_iconst (v := (nI 2)) hx hb dL_law_260 (by decide) ?_
  refine nr_add hx hb dL_law_261 ?_
  refine pp_sld hx hb hX hbl hbA hwX.2.2 (by omega) hL dL_law_262 ?_
  refine mcL_seen hC hwM hok.1 (hR.le (by decide) (by decide)) hl.1 (Nat.le_of_ble_eq_true rfl) dL_law_263 ?_
  refine lv_icmp_eq (tgt := 453) hx hb dL_law_266 (by decide) (fun h1 => ?_) (fun h1 => ?_)
  · exact kk _ _ _ _ _ H locs ⟨hok, hap, hwM, al, ow, tb, us, sc, bg, ce, ge, hG, hwX⟩
  · exact absurd rfl h1
set_option maxHeartbeats 4000000 in
set_option maxRecDepth 100000 in
theorem law_c7 (hC : pp_CX p m c cL_law 4 s args R_law D dA dL) (hR : pp_RM R cells slots 6 152) {b n i : Nat} {xs : Nat → Int32} (hX : va_X b n xs s H0) (hbl : b < H0.size) (hbA : ¬ A b) (hL : n ≤ 320) (hi : i + 5 ≤ n) (hI : pp_LI D dA dL adx adm A H0 cn qq mq fq sn H locs) (hl : lv_has ls 4 [(0, .ref b), (1, .ref (adx 0)), (2, .ref (adm 0)), (3, .int (nI i))]) (kk : ∀ (cn qq : Nat) (mq fq sn : Nat → Nat) (H : Heap) (locs : List Loc), pp_LI D dA dL adx adm A H0 cn qq mq fq sn H locs → W p l e R s m args below meth c H locs cells slots Q (F0 m 453 ls [])) : W p l e R s m args below meth c H locs cells slots Q (F0 m 271 ls []) := by
  have hx := hC.1.1
  have hb := hC.1.2.1
  obtain ⟨hok, hap, hwM, al, ow, tb, us, sc, bg, ce, ge, hG, hwX⟩ := hI
  refine lv_aload_n hx hb dL_law_271 rfl (lv_at hl 1 rfl) ?_
  refine xcL_likelihood hC hwX hok hG (hR.le (by decide) (by decide)) hl.1 (Nat.le_of_ble_eq_true rfl) dL_law_272 (fun r u H locs hru hwX hk => ?_)
  have hwM := pp_keepM hwM hwX.2.2 hk hap
  refine lv_aload_n hx hb dL_law_275 rfl (lv_at hl 2 rfl) ?_
  refine mcL_likelihood hC hwM hok (hR.le (by decide) (by decide)) hl.1 (Nat.le_of_ble_eq_true rfl) dL_law_276 ?_
  refine W.lcmp hx hb dL_law_279 ?_
  refine lv_if_eq (tgt := 453) hx hb dL_law_280 (by decide) (fun h1 => ?_) (fun h1 => ?_)
  · exact kk _ _ _ _ _ H locs ⟨hok, hap, hwM, u.1, u.2.1, u.2.2.1, u.2.2.2.1, u.2.2.2.2.1, u.2.2.2.2.2.1, u.2.2.2.2.2.2.1, u.2.2.2.2.2.2.2, hru.2, hwX⟩
  · exact absurd ((lg_cmp_eq _ _).mpr (hru.1.trans (pp_eq_lik))) h1
set_option maxHeartbeats 4000000 in
set_option maxRecDepth 100000 in
theorem law_c8 (hC : pp_CX p m c cL_law 4 s args R_law D dA dL) (hR : pp_RM R cells slots 6 152) {b n i : Nat} {xs : Nat → Int32} (hX : va_X b n xs s H0) (hbl : b < H0.size) (hbA : ¬ A b) (hL : n ≤ 320) (hi : i + 5 ≤ n) (hI : pp_LI D dA dL adx adm A H0 cn qq mq fq sn H locs) (hl : lv_has ls 4 [(0, .ref b), (1, .ref (adx 0)), (2, .ref (adm 0)), (3, .int (nI i))]) (kk : ∀ (cn qq : Nat) (mq fq sn : Nat → Nat) (H : Heap) (locs : List Loc), pp_LI D dA dL adx adm A H0 cn qq mq fq sn H locs → W p l e R s m args below meth c H locs cells slots Q (F0 m 453 ls [])) : W p l e R s m args below meth c H locs cells slots Q (F0 m 285 ls []) := by
  have hx := hC.1.1
  have hb := hC.1.2.1
  obtain ⟨hok, hap, hwM, al, ow, tb, us, sc, bg, ce, ge, hG, hwX⟩ := hI
  refine lv_aload_n hx hb dL_law_285 rfl (lv_at hl 1 rfl) ?_
  refine lv_aload_n hx hb dL_law_286 rfl (lv_at hl 0 rfl) ?_
  refine lv_iload_n hx hb dL_law_287 rfl (lv_at hl 3 rfl) ?_
  refine lv_iconst (v := (nI 1)) hx hb dL_law_288 (by decide) ?_
  refine nr_add hx hb dL_law_289 ?_
  refine pp_sld hx hb hX hbl hbA hwX.2.2 (by omega) hL dL_law_290 ?_
  refine lv_aload_n hx hb dL_law_291 rfl (lv_at hl 0 rfl) ?_
  refine lv_iload_n hx hb dL_law_292 rfl (lv_at hl 3 rfl) ?_
  refine lv_iconst (v := (nI 2)) hx hb dL_law_293 (by decide) ?_
  refine nr_add hx hb dL_law_294 ?_
  refine pp_sld hx hb hX hbl hbA hwX.2.2 (by omega) hL dL_law_295 ?_
  refine xcL_share hC hwX hok hG (hR.le (by decide) (by decide)) hl.1 (Nat.le_of_ble_eq_true rfl) dL_law_296 (fun r u H locs hru hwX hk => ?_)
  have hwM := pp_keepM hwM hwX.2.2 hk hap
  refine lv_aload_n hx hb dL_law_299 rfl (lv_at hl 2 rfl) ?_
  refine lv_aload_n hx hb dL_law_300 rfl (lv_at hl 0 rfl) ?_
  refine lv_iload_n hx hb dL_law_301 rfl (lv_at hl 3 rfl) ?_
  refine lv_iconst (v := (nI 1)) hx hb dL_law_302 (by decide) ?_
  refine nr_add hx hb dL_law_303 ?_
  refine pp_sld hx hb hX hbl hbA hwX.2.2 (by omega) hL dL_law_304 ?_
  refine lv_aload_n hx hb dL_law_305 rfl (lv_at hl 0 rfl) ?_
  refine lv_iload_n hx hb dL_law_306 rfl (lv_at hl 3 rfl) ?_
  refine lv_iconst (v := (nI 2)) hx hb dL_law_307 (by decide) ?_
  refine nr_add hx hb dL_law_308 ?_
  refine pp_sld hx hb hX hbl hbA hwX.2.2 (by omega) hL dL_law_309 ?_
  refine mcL_share hC hwM hok (hR.le (by decide) (by decide)) hl.1 (Nat.le_of_ble_eq_true rfl) dL_law_310 ?_
  refine W.lcmp hx hb dL_law_313 ?_
  refine lv_if_eq (tgt := 453) hx hb dL_law_314 (by decide) (fun h1 => ?_) (fun h1 => ?_)
  · exact kk _ _ _ _ _ H locs ⟨hok, hap, hwM, u.1, u.2.1, u.2.2.1, u.2.2.2.1, u.2.2.2.2.1, u.2.2.2.2.2.1, u.2.2.2.2.2.2.1, u.2.2.2.2.2.2.2, hru.2, hwX⟩
  · exact absurd ((lg_cmp_eq _ _).mpr (hru.1.trans (pp_eq_share hok.1 _ _))) h1
set_option maxHeartbeats 4000000 in
set_option maxRecDepth 100000 in
theorem law_c9 (hC : pp_CX p m c cL_law 4 s args R_law D dA dL) (hR : pp_RM R cells slots 6 152) {b n i : Nat} {xs : Nat → Int32} (hX : va_X b n xs s H0) (hbl : b < H0.size) (hbA : ¬ A b) (hL : n ≤ 320) (hi : i + 5 ≤ n) (hI : pp_LI D dA dL adx adm A H0 cn qq mq fq sn H locs) (hl : lv_has ls 4 [(0, .ref b), (1, .ref (adx 0)), (2, .ref (adm 0)), (3, .int (nI i))]) (kk : ∀ (cn qq : Nat) (mq fq sn : Nat → Nat) (H : Heap) (locs : List Loc), pp_LI D dA dL adx adm A H0 cn qq mq fq sn H locs → W p l e R s m args below meth c H locs cells slots Q (F0 m 453 ls [])) : W p l e R s m args below meth c H locs cells slots Q (F0 m 319 ls []) := by
  have hx := hC.1.1
  have hb := hC.1.2.1
  obtain ⟨hok, hap, hwM, al, ow, tb, us, sc, bg, ce, ge, hG, hwX⟩ := hI
  refine lv_aload_n hx hb dL_law_319 rfl (lv_at hl 1 rfl) ?_
  refine lv_aload_n hx hb dL_law_320 rfl (lv_at hl 0 rfl) ?_
  refine lv_iload_n hx hb dL_law_321 rfl (lv_at hl 3 rfl) ?_
  refine lv_iconst (v := (nI 1)) hx hb dL_law_322 (by decide) ?_
  refine nr_add hx hb dL_law_323 ?_
  refine pp_sld hx hb hX hbl hbA hwX.2.2 (by omega) hL dL_law_324 ?_
  refine lv_aload_n hx hb dL_law_325 rfl (lv_at hl 0 rfl) ?_
  refine lv_iload_n hx hb dL_law_326 rfl (lv_at hl 3 rfl) ?_
  refine lv_iconst (v := (nI 2)) hx hb dL_law_327 (by decide) ?_
  refine nr_add hx hb dL_law_328 ?_
  refine pp_sld hx hb hX hbl hbA hwX.2.2 (by omega) hL dL_law_329 ?_
  refine lv_aload_n hx hb dL_law_330 rfl (lv_at hl 0 rfl) ?_
  refine lv_iload_n hx hb dL_law_331 rfl (lv_at hl 3 rfl) ?_
  refine lv_iconst (v := (nI 3)) hx hb dL_law_332 (by decide) ?_
  refine nr_add hx hb dL_law_333 ?_
  refine pp_sld hx hb hX hbl hbA hwX.2.2 (by omega) hL dL_law_334 ?_
  refine lv_aload_n hx hb dL_law_335 rfl (lv_at hl 0 rfl) ?_
  refine lv_iload_n hx hb dL_law_336 rfl (lv_at hl 3 rfl) ?_
  refine lv_iconst (v := (nI 4)) hx hb dL_law_337 (by decide) ?_
  refine nr_add hx hb dL_law_338 ?_
  refine pp_sld hx hb hX hbl hbA hwX.2.2 (by omega) hL dL_law_339 ?_
  refine xcL_shareOfTwo hC hwX hok hG (hR.le (by decide) (by decide)) hl.1 (Nat.le_of_ble_eq_true rfl) dL_law_340 (fun r u H locs hru hwX hk => ?_)
  have hwM := pp_keepM hwM hwX.2.2 hk hap
  refine lv_aload_n hx hb dL_law_343 rfl (lv_at hl 2 rfl) ?_
  refine lv_aload_n hx hb dL_law_344 rfl (lv_at hl 0 rfl) ?_
  refine lv_iload_n hx hb dL_law_345 rfl (lv_at hl 3 rfl) ?_
  refine lv_iconst (v := (nI 1)) hx hb dL_law_346 (by decide) ?_
  refine nr_add hx hb dL_law_347 ?_
  refine pp_sld hx hb hX hbl hbA hwX.2.2 (by omega) hL dL_law_348 ?_
  refine lv_aload_n hx hb dL_law_349 rfl (lv_at hl 0 rfl) ?_
  refine lv_iload_n hx hb dL_law_350 rfl (lv_at hl 3 rfl) ?_
  refine lv_iconst (v := (nI 2)) hx hb dL_law_351 (by decide) ?_
  refine nr_add hx hb dL_law_352 ?_
  refine pp_sld hx hb hX hbl hbA hwX.2.2 (by omega) hL dL_law_353 ?_
  refine lv_aload_n hx hb dL_law_354 rfl (lv_at hl 0 rfl) ?_
  refine lv_iload_n hx hb dL_law_355 rfl (lv_at hl 3 rfl) ?_
  refine lv_iconst (v := (nI 3)) hx hb dL_law_356 (by decide) ?_
  refine nr_add hx hb dL_law_357 ?_
  refine pp_sld hx hb hX hbl hbA hwX.2.2 (by omega) hL dL_law_358 ?_
  refine lv_aload_n hx hb dL_law_359 rfl (lv_at hl 0 rfl) ?_
  refine lv_iload_n hx hb dL_law_360 rfl (lv_at hl 3 rfl) ?_
  refine lv_iconst (v := (nI 4)) hx hb dL_law_361 (by decide) ?_
  refine nr_add hx hb dL_law_362 ?_
  refine pp_sld hx hb hX hbl hbA hwX.2.2 (by omega) hL dL_law_363 ?_
  refine mcL_shareOfTwo hC hwM hok (hR.le (by decide) (by decide)) hl.1 (Nat.le_of_ble_eq_true rfl) dL_law_364 ?_
  refine W.lcmp hx hb dL_law_367 ?_
  refine lv_if_eq (tgt := 453) hx hb dL_law_368 (by decide) (fun h1 => ?_) (fun h1 => ?_)
  · exact kk _ _ _ _ _ H locs ⟨hok, hap, hwM, u.1, u.2.1, u.2.2.1, u.2.2.2.1, u.2.2.2.2.1, u.2.2.2.2.2.1, u.2.2.2.2.2.2.1, u.2.2.2.2.2.2.2, hru.2, hwX⟩
  · exact absurd ((lg_cmp_eq _ _).mpr (hru.1.trans (pp_eq_two hok.1 _ _ _ _))) h1
set_option maxHeartbeats 4000000 in
set_option maxRecDepth 100000 in
theorem law_c10 (hC : pp_CX p m c cL_law 4 s args R_law D dA dL) (hR : pp_RM R cells slots 6 152) {b n i : Nat} {xs : Nat → Int32} (hX : va_X b n xs s H0) (hbl : b < H0.size) (hbA : ¬ A b) (hL : n ≤ 320) (hi : i + 5 ≤ n) (hI : pp_LI D dA dL adx adm A H0 cn qq mq fq sn H locs) (hl : lv_has ls 4 [(0, .ref b), (1, .ref (adx 0)), (2, .ref (adm 0)), (3, .int (nI i))]) (kk : ∀ (cn qq : Nat) (mq fq sn : Nat → Nat) (H : Heap) (locs : List Loc), pp_LI D dA dL adx adm A H0 cn qq mq fq sn H locs → W p l e R s m args below meth c H locs cells slots Q (F0 m 453 ls [])) : W p l e R s m args below meth c H locs cells slots Q (F0 m 373 ls []) := by
  have hx := hC.1.1
  have hb := hC.1.2.1
  obtain ⟨hok, hap, hwM, al, ow, tb, us, sc, bg, ce, ge, hG, hwX⟩ := hI
  refine lv_aload_n hx hb dL_law_373 rfl (lv_at hl 1 rfl) ?_
  refine lv_aload_n hx hb dL_law_374 rfl (lv_at hl 0 rfl) ?_
  refine lv_iload_n hx hb dL_law_375 rfl (lv_at hl 3 rfl) ?_
  refine lv_iconst (v := (nI 1)) hx hb dL_law_376 (by decide) ?_
  refine nr_add hx hb dL_law_377 ?_
  refine pp_sld hx hb hX hbl hbA hwX.2.2 (by omega) hL dL_law_378 ?_
  refine xcL_copies hC hwX hok hG (hR.le (by decide) (by decide)) hl.1 (Nat.le_of_ble_eq_true rfl) dL_law_379 (fun r u H locs hru hwX hk => ?_)
  have hwM := pp_keepM hwM hwX.2.2 hk hap
  refine lv_aload_n hx hb dL_law_382 rfl (lv_at hl 2 rfl) ?_
  refine lv_aload_n hx hb dL_law_383 rfl (lv_at hl 0 rfl) ?_
  refine lv_iload_n hx hb dL_law_384 rfl (lv_at hl 3 rfl) ?_
  refine lv_iconst (v := (nI 1)) hx hb dL_law_385 (by decide) ?_
  refine nr_add hx hb dL_law_386 ?_
  refine pp_sld hx hb hX hbl hbA hwX.2.2 (by omega) hL dL_law_387 ?_
  refine mcL_copies hC hwM hok (hR.le (by decide) (by decide)) hl.1 (Nat.le_of_ble_eq_true rfl) dL_law_388 ?_
  refine W.lcmp hx hb dL_law_391 ?_
  refine lv_if_eq (tgt := 453) hx hb dL_law_392 (by decide) (fun h1 => ?_) (fun h1 => ?_)
  · exact kk _ _ _ _ _ H locs ⟨hok, hap, hwM, u.1, u.2.1, u.2.2.1, u.2.2.2.1, u.2.2.2.2.1, u.2.2.2.2.2.1, u.2.2.2.2.2.2.1, u.2.2.2.2.2.2.2, hru.2, hwX⟩
  · exact absurd ((lg_cmp_eq _ _).mpr (hru.1.trans (pp_eq_cop hok.1 _))) h1
set_option maxHeartbeats 4000000 in
set_option maxRecDepth 100000 in
theorem law_c11 (hC : pp_CX p m c cL_law 4 s args R_law D dA dL) (hR : pp_RM R cells slots 6 152) {b n i : Nat} {xs : Nat → Int32} (hX : va_X b n xs s H0) (hbl : b < H0.size) (hbA : ¬ A b) (hL : n ≤ 320) (hi : i + 5 ≤ n) (hI : pp_LI D dA dL adx adm A H0 cn qq mq fq sn H locs) (hl : lv_has ls 4 [(0, .ref b), (1, .ref (adx 0)), (2, .ref (adm 0)), (3, .int (nI i))]) (kk : ∀ (cn qq : Nat) (mq fq sn : Nat → Nat) (H : Heap) (locs : List Loc), pp_LI D dA dL adx adm A H0 cn qq mq fq sn H locs → W p l e R s m args below meth c H locs cells slots Q (F0 m 453 ls [])) : W p l e R s m args below meth c H locs cells slots Q (F0 m 397 ls []) := by
  have hx := hC.1.1
  have hb := hC.1.2.1
  obtain ⟨hok, hap, hwM, al, ow, tb, us, sc, bg, ce, ge, hG, hwX⟩ := hI
  refine lv_aload_n hx hb dL_law_397 rfl (lv_at hl 1 rfl) ?_
  refine lv_aload_n hx hb dL_law_398 rfl (lv_at hl 0 rfl) ?_
  refine lv_iload_n hx hb dL_law_399 rfl (lv_at hl 3 rfl) ?_
  refine lv_iconst (v := (nI 1)) hx hb dL_law_400 (by decide) ?_
  refine nr_add hx hb dL_law_401 ?_
  refine pp_sld hx hb hX hbl hbA hwX.2.2 (by omega) hL dL_law_402 ?_
  refine xcL_possible hC hwX hok hG (hR.le (by decide) (by decide)) hl.1 (Nat.le_of_ble_eq_true rfl) dL_law_403 (fun r u H locs hru hwX hk => ?_)
  have hwM := pp_keepM hwM hwX.2.2 hk hap
  refine lv_aload_n hx hb dL_law_406 rfl (lv_at hl 2 rfl) ?_
  refine lv_aload_n hx hb dL_law_407 rfl (lv_at hl 0 rfl) ?_
  refine lv_iload_n hx hb dL_law_408 rfl (lv_at hl 3 rfl) ?_
  refine lv_iconst (v := (nI 1)) hx hb dL_law_409 (by decide) ?_
  refine nr_add hx hb dL_law_410 ?_
  refine pp_sld hx hb hX hbl hbA hwX.2.2 (by omega) hL dL_law_411 ?_
  refine mcL_possible hC hwM hok (hR.le (by decide) (by decide)) hl.1 (Nat.le_of_ble_eq_true rfl) dL_law_412 ?_
  refine lv_icmp_eq (tgt := 453) hx hb dL_law_415 (by decide) (fun h1 => ?_) (fun h1 => ?_)
  · exact kk _ _ _ _ _ H locs ⟨hok, hap, hwM, u.1, u.2.1, u.2.2.1, u.2.2.2.1, u.2.2.2.2.1, u.2.2.2.2.2.1, u.2.2.2.2.2.2.1, u.2.2.2.2.2.2.2, hru.2, hwX⟩
  · exact absurd (hru.1.trans (congrArg nI (pp_eq_pos hok.1 _))) h1
set_option maxHeartbeats 4000000 in
set_option maxRecDepth 100000 in
theorem law_c12 (hC : pp_CX p m c cL_law 4 s args R_law D dA dL) (hR : pp_RM R cells slots 6 152) {b n i : Nat} {xs : Nat → Int32} (hX : va_X b n xs s H0) (hbl : b < H0.size) (hbA : ¬ A b) (hL : n ≤ 320) (hi : i + 5 ≤ n) (hI : pp_LI D dA dL adx adm A H0 cn qq mq fq sn H locs) (hl : lv_has ls 4 [(0, .ref b), (1, .ref (adx 0)), (2, .ref (adm 0)), (3, .int (nI i))]) (kk : ∀ (cn qq : Nat) (mq fq sn : Nat → Nat) (H : Heap) (locs : List Loc), pp_LI D dA dL adx adm A H0 cn qq mq fq sn H locs → W p l e R s m args below meth c H locs cells slots Q (F0 m 453 ls [])) : W p l e R s m args below meth c H locs cells slots Q (F0 m 420 ls []) := by
  have hx := hC.1.1
  have hb := hC.1.2.1
  obtain ⟨hok, hap, hwM, al, ow, tb, us, sc, bg, ce, ge, hG, hwX⟩ := hI
  refine lv_aload_n hx hb dL_law_420 rfl (lv_at hl 1 rfl) ?_
  refine lv_aload_n hx hb dL_law_421 rfl (lv_at hl 0 rfl) ?_
  refine lv_iload_n hx hb dL_law_422 rfl (lv_at hl 3 rfl) ?_
  refine lv_iconst (v := (nI 1)) hx hb dL_law_423 (by decide) ?_
  refine nr_add hx hb dL_law_424 ?_
  refine pp_sld hx hb hX hbl hbA hwX.2.2 (by omega) hL dL_law_425 ?_
  refine lv_aload_n hx hb dL_law_426 rfl (lv_at hl 0 rfl) ?_
  refine lv_iload_n hx hb dL_law_427 rfl (lv_at hl 3 rfl) ?_
  refine lv_iconst (v := (nI 2)) hx hb dL_law_428 (by decide) ?_
  refine nr_add hx hb dL_law_429 ?_
  refine pp_sld hx hb hX hbl hbA hwX.2.2 (by omega) hL dL_law_430 ?_
  refine xcL_before hC hwX hok (hR.le (by decide) (by decide)) hl.1 (Nat.le_of_ble_eq_true rfl) dL_law_431 ?_
  refine lv_aload_n hx hb dL_law_434 rfl (lv_at hl 2 rfl) ?_
  refine lv_aload_n hx hb dL_law_435 rfl (lv_at hl 0 rfl) ?_
  refine lv_iload_n hx hb dL_law_436 rfl (lv_at hl 3 rfl) ?_
  refine lv_iconst (v := (nI 1)) hx hb dL_law_437 (by decide) ?_
  refine nr_add hx hb dL_law_438 ?_
  refine pp_sld hx hb hX hbl hbA hwX.2.2 (by omega) hL dL_law_439 ?_
  refine lv_aload_n hx hb dL_law_440 rfl (lv_at hl 0 rfl) ?_
  refine lv_iload_n hx hb dL_law_441 rfl (lv_at hl 3 rfl) ?_
  refine lv_iconst (v := (nI 2)) hx hb dL_law_442 (by decide) ?_
  refine nr_add hx hb dL_law_443 ?_
  refine pp_sld hx hb hX hbl hbA hwX.2.2 (by omega) hL dL_law_444 ?_
  refine mcL_before hC hwM hok (hR.le (by decide) (by decide)) hl.1 (Nat.le_of_ble_eq_true rfl) dL_law_445 ?_
  refine lv_icmp_eq (tgt := 453) hx hb dL_law_448 (by decide) (fun h1 => ?_) (fun h1 => ?_)
  · exact kk _ _ _ _ _ H locs ⟨hok, hap, hwM, al, ow, tb, us, sc, bg, ce, ge, hG, hwX⟩
  · exact absurd (congrArg nI (pp_eq_bef hok _ _)) h1
end PLC
end
section
section PLL
variable {p : Program} {l : Launch} {e : Env} {R : Room} {s : State} {m : MethodId} {args : Array Value} {below : List Frame} {meth : Method} {c : Code} {H : Heap} {locs : List Loc} {cells slots : Nat} {Q : State → Prop}
variable {cc : ByteArray} {pc nL : Nat} {ls : Array Slot} {rest : List Value}
variable {D : va_G} {dA dL : ClassId} {adx adm : Nat → Nat} {A : Nat → Prop} {H0 : Heap}
set_option maxHeartbeats 4000000 in
set_option maxRecDepth 100000 in
theorem law_loop (hC : pp_CX p m c cL_law 4 s args R_law D dA dL) (hR : pp_RM R cells slots 6 152) {b n : Nat} {xs : Nat → Int32} (hX : va_X b n xs s H0) (hbl : b < H0.size) (hbA : ¬ A b) (hL : n ≤ 320) (kk : ∀ (ls : Array Slot) (H : Heap) (locs : List Loc), va_S A H0 H locs → W p l e R s m args below meth c H locs cells slots Q (F0 m 459 ls [])) : ∀ (k i : Nat) (cn qq : Nat) (mq fq sn : Nat → Nat) (ls : Array Slot) (H : Heap) (locs : List Loc), n - i = k → i ≤ n → pp_LI D dA dL adx adm A H0 cn qq mq fq sn H locs → lv_has ls 4 [(0, .ref b), (1, .ref (adx 0)), (2, .ref (adm 0)), (3, .int (nI i))] → W p l e R s m args below meth c H locs cells slots Q (F0 m 18 ls []) := by
  have hx := hC.1.1
  have hb := hC.1.2.1
  intro k
  induction k using Nat.strongRecOn with
  | ind k ih =>
    intro i cn qq mq fq sn ls H locs hn hin hI hl
    have hwX := hI
    obtain ⟨-, -, hwM, -⟩ := hwX
    have hwX := hwM
    refine lv_iload_n hx hb dL_law_18 rfl (lv_at hl 3 rfl) ?_
    refine lv_aload_n hx hb dL_law_19 rfl (lv_at hl 0 rfl) ?_
    refine va_slen hx hb hX hbl hbA hwM.2.2 dL_law_20 ?_
    refine lv_iconst (v := nI 5) hx hb dL_law_21 (by decide) ?_
    refine lv_isub hx hb dL_law_22 ?_
    refine lv_icmp_gt (tgt := 459) hx hb dL_law_23 (by decide) (fun h1 => ?_) (fun h1 => ?_)
    · exact kk ls H locs hwM.2.2
    · have hi : i + 5 ≤ n := Nat.le_of_not_lt fun z => h1 ((pn_lt5 hL (by omega)).mpr z)
      refine lv_aload_n hx hb dL_law_26 rfl (lv_at hl 0 rfl) ?_
      refine lv_iload_n hx hb dL_law_27 rfl (lv_at hl 3 rfl) ?_
      refine pp_sld hx hb hX hbl hbA hwX.2.2 (by omega) hL dL_law_28 ?_
      refine lv_bipush (v := nI 15) hx hb dL_law_29 (by decide) ?_
      refine lv_iand hx hb dL_law_31 ?_
      have tail : ∀ (cn qq : Nat) (mq fq sn : Nat → Nat) (H : Heap) (locs : List Loc), pp_LI D dA dL adx adm A H0 cn qq mq fq sn H locs → W p l e R s m args below meth c H locs cells slots Q (F0 m 453 ls []) := by
        intro cn qq mq fq sn H locs hI
        refine lv_iinc (v := nI (i + 5)) (lv' := [(3, .int (nI (i + 5))), (0, .ref b), (1, .ref (adx 0)), (2, .ref (adm 0))]) hx hb dL_law_453 hl (k := 3) rfl (pn_inc5 _) (by decide) rfl (fun ls hl => ?_)
        refine lv_goto (tgt := 18) hx hb dL_law_456 (by decide) ?_
        exact ih (n - (i + 5)) (by omega) (i + 5) cn qq mq fq sn ls H locs rfl hi hI (lv_sub hl [1, 2, 3, 0] rfl)
      obtain ⟨j, hj, ej⟩ := pk_andE (xs i) (m := nI 15) 4 (by decide)
      refine nr_top ej ?_
      have hc : j = 0 ∨ j = 1 ∨ j = 2 ∨ j = 3 ∨ j = 4 ∨ j = 5 ∨ j = 6 ∨ j = 7 ∨ j = 8 ∨ j = 9 ∨ j = 10 ∨ j = 11 ∨ j = 12 ∨ 13 ≤ j := by omega
      rcases hc with rfl | rfl | rfl | rfl | rfl | rfl | rfl | rfl | rfl | rfl | rfl | rfl | rfl | h13
      · refine lv_tableIn (tgt := 100) (off := 68) hx hb dL_law_32 (by decide) (by decide) (by decide) (by decide) ?_
        exact law_c0 hC hR hX hbl hbA hL hi hI hl tail
      · refine lv_tableIn (tgt := 113) (off := 81) hx hb dL_law_32 (by decide) (by decide) (by decide) (by decide) ?_
        exact law_c1 hC hR hX hbl hbA hL hi hI hl tail
      · refine lv_tableIn (tgt := 146) (off := 114) hx hb dL_law_32 (by decide) (by decide) (by decide) (by decide) ?_
        exact law_c2 hC hR hX hbl hbA hL hi hI hl tail
      · refine lv_tableIn (tgt := 159) (off := 127) hx hb dL_law_32 (by decide) (by decide) (by decide) (by decide) ?_
        exact law_c3 hC hR hX hbl hbA hL hi hI hl tail
      · refine lv_tableIn (tgt := 172) (off := 140) hx hb dL_law_32 (by decide) (by decide) (by decide) (by decide) ?_
        exact law_c4 hC hR hX hbl hbA hL hi hI hl tail
      · refine lv_tableIn (tgt := 195) (off := 163) hx hb dL_law_32 (by decide) (by decide) (by decide) (by decide) ?_
        exact law_c5 hC hR hX hbl hbA hL hi hI hl tail
      · refine lv_tableIn (tgt := 238) (off := 206) hx hb dL_law_32 (by decide) (by decide) (by decide) (by decide) ?_
        exact law_c6 hC hR hX hbl hbA hL hi hI hl tail
      · refine lv_tableIn (tgt := 271) (off := 239) hx hb dL_law_32 (by decide) (by decide) (by decide) (by decide) ?_
        exact law_c7 hC hR hX hbl hbA hL hi hI hl tail
      · refine lv_tableIn (tgt := 285) (off := 253) hx hb dL_law_32 (by decide) (by decide) (by decide) (by decide) ?_
        exact law_c8 hC hR hX hbl hbA hL hi hI hl tail
      · refine lv_tableIn (tgt := 319) (off := 287) hx hb dL_law_32 (by decide) (by decide) (by decide) (by decide) ?_
        exact law_c9 hC hR hX hbl hbA hL hi hI hl tail
      · refine lv_tableIn (tgt := 373) (off := 341) hx hb dL_law_32 (by decide) (by decide) (by decide) (by decide) ?_
        exact law_c10 hC hR hX hbl hbA hL hi hI hl tail
      · refine lv_tableIn (tgt := 397) (off := 365) hx hb dL_law_32 (by decide) (by decide) (by decide) (by decide) ?_
        exact law_c11 hC hR hX hbl hbA hL hi hI hl tail
      · refine lv_tableIn (tgt := 420) (off := 388) hx hb dL_law_32 (by decide) (by decide) (by decide) (by decide) ?_
        exact law_c12 hC hR hX hbl hbA hL hi hI hl tail
      · refine lv_tableOut (tgt := 453) hx hb dL_law_32 (Or.inr (by rw [nI_toInt (by omega)]; omega)) (by decide) ?_
        exact tail cn qq mq fq sn H locs hI
end PLL
end
section
/-! THE CLAIM OUT OF ONE WALK OF THE LAW'S BODY. Your part is whole_start (and what it stands on); all else here is the same for every law, but numbers. -/
def lw_P (b : Addr) (xs : List Int32) (args : Array Value) (s : State) : Prop := args = #[.ref b] ∧ s.IntsAt b xs ∧ xs.length ≤ 320 ∧ (Jvm.Cond.and given_1 narrow_1).before args s = true
def lw_Q (_ : Array Value) (s : State) (o : Outcome) (t : State) : Prop := o = .returned (some (.int 1)) ∧ Framed s o t [] 600000 7290000
def lw_Z (below : List Frame) (a : Array Value) (s : State) : State → Prop := fun t => ∃ o, t.status = .running ∧ Ended t below o ∧ lw_Q a s o t
/-- the law's own end, with 1 on the stack, nothing written that was there before, its room as the claim has it -/
theorem lw_ret {p : Program} {l : Launch} {e : Env} {s : State} {m : MethodId} {below : List Frame} {meth : Method} {c : Code} {b : Nat} (hx : p.tables.exec = Jvm.exec) (hb : c.code = code) (hr : meth.sig.returnType = ret) (hlocks : meth.locks = false) {pc : Nat} {H : Heap} {ls : Array Slot} (hdg : decode code pc = .ok (.ireturn, 1)) : W p l e room_1 s m #[Value.ref b] below meth c H [] 600000 7290000 (lw_Z below #[Value.ref b] s) (F0 m pc ls [.int 1]) := by
  intro T hT X
  obtain ⟨fs, hret, hrun, hended, hW, hframe⟩ := X.leave (v := some (.int 1)) (hlocks := hlocks) (fun h => by rw [hr] at h; cases h)
  have hmeth' : T.vm.method? m = some meth := X.method'
  refine ⟨T.setFrames fs, ?_, .returned (some (.int 1)), hrun, hended, rfl, ⟨_, rfl⟩, hW, hframe⟩
  jvm_step X.here [X.here.top, hx, hb, hdg, hmeth', hr, ret, narrow_b1]
  (try refine ⟨rfl, ?_⟩); (try refine ⟨rfl, ?_⟩)
  first | (intro acts; rw [hret _ acts rfl rfl rfl]) | rw [hret _ _ rfl rfl rfl]
  exact Steps.refl _
/-- what holds at the law's entry: the machine, the code, the tables' words (any of lw_tbl by 'hts w (by decide +kernel)'), the script of L ints xs at the cell b, what the Statement gives of the start (any of its parts by flat_of_before) -/
def lw_At (p : Program) (s : State) (m : MethodId) (meth : Method) (c : Code) (b L : Nat) (xs : Nat → Int32) : Prop :=
  p.tables.exec = Jvm.exec ∧ c.code = code ∧ meth.sig.returnType = ret ∧ c.maxLocals = 4 ∧ s.vm.findClass R_law = some m.cls ∧ (∀ w ∈ lw_tbl, w.before #[Value.ref b] s = true) ∧ va_X b L xs s s.heap ∧ b < s.heap.size ∧ meth.locks = false ∧ (Jvm.Cond.and given_1 narrow_1).before #[Value.ref b] s = true
theorem pp_D_apart {A : Nat → Prop} {w1 w2 : va_W} (h : va_D A (w1 ++ w2)) : ∀ q, q ∈ w1.map (fun x => x.1) → ¬ q ∈ w2.map (fun x => x.1) := by
  intro q h1 h2
  obtain ⟨x, hx, ex⟩ := List.mem_map.mp h1
  obtain ⟨y, hy, ey⟩ := List.mem_map.mp h2
  obtain ⟨i, hi⟩ := List.getElem?_of_mem hx
  obtain ⟨j, hj⟩ := List.getElem?_of_mem hy
  have hl := (List.getElem?_eq_some_iff.mp hi).1
  have e1 : (w1 ++ w2)[i]? = some x := by rw [List.getElem?_append_left hl]; exact hi
  have e2 : (w1 ++ w2)[w1.length + j]? = some y := by
    rw [List.getElem?_append_right (by omega), show w1.length + j - w1.length = j by omega]
    exact hj
  have := h.1 i (w1.length + j) x y e1 e2 (ex.trans ey.symm)
  omega
set_option maxHeartbeats 4000000 in
set_option maxRecDepth 100000 in
/-- from the entry, for every script of at most 320 ints, the law comes to its end with true -/
theorem whole_start {p : Program} {e : Env} {s : State} {m : MethodId} {below : List Frame} {meth : Method} {c : Code} (l : Launch) {b L : Nat} {xs : Nat → Int32} (hL : L ≤ 320) (C0 : lw_At p s m meth c b L xs) : W p l e room_1 s m #[Value.ref b] below meth c s.heap [] 0 0 (lw_Z below #[Value.ref b] s) (entryFrame m ([Value.ref b] : List Value).toArray 4) := by
  obtain ⟨hx, hb, hr, hml, hown, hts0, hX, hbl, hlocks, hgv⟩ := id C0
  have hts : ∀ w ∈ lw_all, w.before #[Value.ref b] s = true := fun w h => hts0 w (lw_all_tbl h)
  have hA : ∀ q : Nat, s.heap.size ≤ q → (fun q : Nat => s.heap.size ≤ q) q := fun _ h => h
  have hbA : ¬ (fun q : Nat => s.heap.size ≤ q) b := Nat.not_le.mpr hbl
  obtain ⟨c0_, iS0, hKn0⟩ := u_known (C := RX0) (T := TX0) (N := 13) (n := 13) hts in_X0 (hts _ q33)
  obtain ⟨c1_, iS1, hKn1⟩ := u_known (C := RX1) (T := TX1) (N := 5) (n := 5) hts in_X1 (hts _ q209)
  obtain ⟨dA, kA, compA, a1, a2, a3⟩ := Cond.arrayClass_spec (hts _ q80)
  obtain ⟨dL, kL, compL, b1, b2, b3⟩ := Cond.arrayClass_spec (hts _ q81)
  obtain ⟨D, hKc⟩ : ∃ D : va_G, ∀ (k : Nat) (q : vw_C), vwCl[k]? = some q → u_Kn s q.1 q.2.1 q.2.2 (D.1 k) (D.2 k) := by
    refine ⟨(fun k => if k = 0 then c0_ else c1_, fun k => if k = 0 then iS0 else iS1), ?_⟩
    intro k q hq
    match k, hq with
    | 0, hq => cases hq; exact hKn0
    | 1, hq => cases hq; exact hKn1
    | k + 2, hq => simp [vwCl] at hq
  have hK : va_K D vwCl (pp_tys dA dL) s := by
    refine ⟨hKc, fun k q hq => ?_⟩
    match k, hq with
    | 0, hq => cases hq; exact ⟨fun n z => ⟨fun k h => (by cases h), kA, a2, compA, a3⟩, a1⟩
    | 1, hq => cases hq; exact ⟨fun n z => ⟨fun k h => (by cases h), kL, b2, compL, b3⟩, b1⟩
    | k + 2, hq => simp [pp_tys] at hq
  have hC : pp_CX p m c cL_law 4 s #[Value.ref b] R_law D dA dL := ⟨⟨hx, hb, hml, hown, hts⟩, hK⟩
  have hS : va_S (fun q : Nat => s.heap.size ≤ q) s.heap s.heap [] := va_S.rf
  have hP : va_P D vwCl [] s.heap := fun k q h => by simp at h
  have hD : va_D (fun q : Nat => s.heap.size ≤ q) [] := ⟨fun i j x y h => by simp at h, fun k q h => by simp at h⟩
  have hl := lv_entry ([.ref b]) (n := 4) (Nat.le_of_ble_eq_true rfl)
  rw [lg_entry_eq]
  generalize (lg_sl ([.ref b]) ++ List.replicate (4 - (lg_sl ([.ref b])).length) Slot.unset).toArray = ls at hl ⊢
  have hl : lv_has ls 4 [(0, .ref b)] := hl
  refine va_new (ci := 0) (fs := [.int (nI 0), .int (nI 0), .null, .null, .null, .null, .int (nI 0), .int (nI 0), .int (nI 0), .null, .null, .null, .null]) (C := RX0) (T := TX0) (N := 13) hx hb hts in_X0 tyX0 tyX0_ok hown (hts _ q32) (hts _ q33) (hts _ q30) hK hP hD hS hA rfl (fun j hj => by rcases (show j = 0 ∨ j = 1 ∨ j = 2 ∨ j = 3 ∨ j = 4 ∨ j = 5 ∨ j = 6 ∨ j = 7 ∨ j = 8 ∨ j = 9 ∨ j = 10 ∨ j = 11 ∨ j = 12 by omega) with rfl | rfl | rfl | rfl | rfl | rfl | rfl | rfl | rfl | rfl | rfl | rfl | rfl <;> rfl) (Nat.le_of_ble_eq_true rfl) (Nat.le_of_ble_eq_true rfl) dL_law_0 (fun q1 H hP hD hS => ?_)
  have hP : va_P D vwCl [(q1, .inr (0, [.int (nI 0), .int (nI 0), .null, .null, .null, .null, .int (nI 0), .int (nI 0), .int (nI 0), .null, .null, .null, .null]))] H := hP
  have hD : va_D (fun q : Nat => s.heap.size ≤ q) [(q1, .inr (0, [.int (nI 0), .int (nI 0), .null, .null, .null, .null, .int (nI 0), .int (nI 0), .int (nI 0), .null, .null, .null, .null]))] := hD
  refine lv_dup hx hb dL_law_3 rfl ?_
  have hFc := va_free (wc := [(q1, .inr (0, [.int (nI 0), .int (nI 0), .null, .null, .null, .null, .int (nI 0), .int (nI 0), .int (nI 0), .null, .null, .null, .null]))]) hD hS hA [0] rfl
  refine va_callv (va_runI (As := []) (rest := [.ref q1]) hC.1 (mX_init l D dA dL q1 H.size) (cwI 0 hts (lw_meth q36) rfl rfl rfl (hts _ q30) (hts _ q34) (hts _ q35) rfl (by decide +kernel) ⟨Nat.le_of_ble_eq_true rfl, Nat.le_of_ble_eq_true rfl⟩) ⟨fun a U g mk q => by obtain ⟨z0, z1, zP, zK, zD⟩ := q; exact ⟨z0, z1, zP, va_K.moved (u := U) (U := U.calling g mk a) (Vm.Alike.refl U.vm) zK, zD⟩, fun U hU hW => ⟨rfl, by rw [hU], by rw [hU]; exact hP, va_K.moved hW.alike hK, hD.weaken (fun _ _ _ _ => trivial)⟩⟩ rfl rfl hl.1 rfl (lv_room (Nat.le_of_ble_eq_true rfl)) dL_law_4 ⟨Nat.le_of_ble_eq_true rfl, Nat.le_of_ble_eq_true rfl⟩) hS (fun q _ h => hFc q h) hFc (fun adx t H1 locs ht hvm hw1 hB hz1 hk1 hS => ?_)
  obtain ⟨hP1, hD1⟩ := hB
  rw [ht] at hP1
  have hw1 : adx 0 = q1 := hw1
  subst hw1
  have hD1 : va_D (fun q : Nat => s.heap.size ≤ q) (pp_WX dA dL adx 0 8 (fun _ => 1) (fun _ => 1) (fun _ => 0) (fun _ => 0) 0 0 0 (fun _ => 0) (fun _ => 0) (fun _ => 0) (fun _ => 0)) := hD1.weaken (fun _ q _ h => hFc q.1 h)
  generalize H1 = H at hP1 hS ⊢
  refine lv_astore_n (lv' := [(1, .ref (adx 0)), (0, .ref b)]) hx hb dL_law_7 rfl hl (by decide) rfl (fun ls hl => ?_)
  refine va_new (ci := 1) (fs := [.null, .null, .null, .int (nI 0), .int (nI 0)]) (C := RX1) (T := TX1) (N := 5) hx hb hts in_X1 tyX1 tyX1_ok hown (hts _ q208) (hts _ q209) (hts _ q31) hK hP1 hD1 hS hA rfl (fun j hj => by rcases (show j = 0 ∨ j = 1 ∨ j = 2 ∨ j = 3 ∨ j = 4 by omega) with rfl | rfl | rfl | rfl | rfl <;> rfl) (Nat.le_of_ble_eq_true rfl) (Nat.le_of_ble_eq_true rfl) dL_law_8 (fun q2 H hP hD hS => ?_)
  refine lv_dup hx hb dL_law_11 rfl ?_
  have hPc := hP.sub (ws' := [(q2, .inr (1, [.null, .null, .null, .int (nI 0), .int (nI 0)]))]) [9] rfl
  have hDc := hD.sub (ws' := [(q2, .inr (1, [.null, .null, .null, .int (nI 0), .int (nI 0)]))]) [9] (by decide) rfl
  have hFc := va_free (wc := [(q2, .inr (1, [.null, .null, .null, .int (nI 0), .int (nI 0)]))]) hD hS hA [9] rfl
  refine va_callv (va_runI (As := []) (rest := [.ref q2]) hC.1 (mM_init l D dA dL q2 H.size) (cwI 0 hts (lw_meth q212) rfl rfl rfl (hts _ q31) (hts _ q210) (hts _ q211) rfl (by decide +kernel) ⟨Nat.le_of_ble_eq_true rfl, Nat.le_of_ble_eq_true rfl⟩) ⟨fun a U g mk q => by obtain ⟨z0, z1, zP, zK, zD⟩ := q; exact ⟨z0, z1, zP, va_K.moved (u := U) (U := U.calling g mk a) (Vm.Alike.refl U.vm) zK, zD⟩, fun U hU hW => ⟨rfl, by rw [hU], by rw [hU]; exact hPc, va_K.moved hW.alike hK, hDc.weaken (fun _ _ _ _ => trivial)⟩⟩ rfl rfl hl.1 rfl (lv_room (Nat.le_of_ble_eq_true rfl)) dL_law_12 ⟨Nat.le_of_ble_eq_true rfl, Nat.le_of_ble_eq_true rfl⟩) hS (fun q _ h => hFc q h) hFc (fun adm t H1 locs ht hvm hw2 hB hz1 hk1 hS => ?_)
  obtain ⟨hP2, hD2⟩ := hB
  rw [ht] at hP2
  have hw2 : adm 0 = q2 := hw2
  subst hw2
  obtain ⟨hP, hD⟩ := va_join (wr := pp_WX dA dL adx 0 8 (fun _ => 1) (fun _ => 1) (fun _ => 0) (fun _ => 0) 0 0 0 (fun _ => 0) (fun _ => 0) (fun _ => 0) (fun _ => 0)) (w1 := pp_WM dA dL adm 0 8 (fun _ => 1) (fun _ => 1) (fun _ => 0)) hP hD [9] [0, 1, 2, 3, 4, 5, 6, 7, 8] rfl rfl (by decide) (by decide) hk1 hFc hP2 hD2
  generalize H1 = H at hP hS ⊢
  refine lv_astore_n (lv' := [(2, .ref (adm 0)), (1, .ref (adx 0)), (0, .ref b)]) hx hb dL_law_15 rfl hl (by decide) rfl (fun ls hl => ?_)
  refine lv_iconst (v := nI 0) hx hb dL_law_16 (by decide) ?_
  refine lv_istore_n (lv' := [(3, .int (nI 0)), (2, .ref (adm 0)), (1, .ref (adx 0)), (0, .ref b)]) hx hb dL_law_17 rfl hl (by decide) rfl (fun ls hl => ?_)
  have hap : ∀ q, pp_AX adx q → ¬ pp_AM adm q := pp_D_apart hD
  have hwX : pp_IX D dA dL adx (fun q : Nat => s.heap.size ≤ q) s.heap 0 8 (fun _ => 1) (fun _ => 1) (fun _ => 0) (fun _ => 0) 0 0 0 (fun _ => 0) (fun _ => 0) (fun _ => 0) (fun _ => 0) H locs := ⟨hP.sub [0, 1, 2, 3, 4, 5, 6, 7, 8] rfl, hD.sub [0, 1, 2, 3, 4, 5, 6, 7, 8] (by decide) rfl, hS⟩
  have hwM : pp_IM D dA dL adm (fun q : Nat => s.heap.size ≤ q) s.heap 0 8 (fun _ => 1) (fun _ => 1) (fun _ => 0) H locs := ⟨hP.sub [9, 10, 11, 12] rfl, hD.sub [9, 10, 11, 12] (by decide) rfl, hS⟩
  have hok : pp_ok 0 8 (fun _ => 1) (fun _ => 1) (fun _ => 0) := ⟨by decide, by decide, fun _ => Nat.zero_le 5, fun q hq => absurd hq (by omega)⟩
  refine W.widen (k := 13) (n := 1454) (Nat.le_of_ble_eq_true rfl) (Nat.le_of_ble_eq_true rfl) ?_
  refine law_loop hC ⟨Nat.le_of_ble_eq_true rfl, Nat.le_of_ble_eq_true rfl, Nat.le_of_ble_eq_true rfl, Nat.le_of_ble_eq_true rfl⟩ hX hbl hbA hL (fun ls H locs hS => ?_) L 0 _ _ _ _ _ ls H locs rfl (Nat.zero_le L) ⟨hok, hap, hwM, _, _, _, _, _, _, _, _, pp_G_0, hwX⟩ (lv_sub hl [3, 2, 1, 0] rfl)
  refine lv_iconst (v := 1) hx hb dL_law_459 (by decide) ?_
  refine va_forget (fun q hq => hS.2.2 q hq) ?_
  refine W.widen (k := 600000) (n := 7290000) (Nat.le_of_ble_eq_true rfl) (Nat.le_of_ble_eq_true rfl) ?_
  exact lw_ret hx hb hr hlocks dL_law_460
set_option maxHeartbeats 4000000 in
theorem lw_walk (l : Launch) (b : Addr) (xs : List Int32) : MetFree l x (headSpec (Jvm.Cond.code x code maxLocals ret :: tables_1) room_1) (lw_P b xs) (fun _ _ _ _ _ => True) lw_Q := by
  refine MetFree.of_bodyS (code := code) (maxLocals := maxLocals) (ret := ret) (by decide) ?_ ?_
  · intro args s m h hn
    obtain ⟨meth, c, h1, h2, h3, h4, h5, h6, -, -⟩ := Cond.code_spec hn (atoms_spec (ws := Jvm.Cond.code x code maxLocals ret :: tables_1) h _ List.mem_cons_self)
    exact ⟨meth, c, h1, h2, h3, h4, h5, h6⟩
  · intro p e s m args below meth c s₁ B hml0 hP _
    obtain ⟨rfl, hx, hbd, hgv⟩ := hP
    obtain ⟨scr, harrAt, hlist, hof, hsmall⟩ := hx
    obtain ⟨hcb, hkn, -, -⟩ := State.arrayAt?_spec harrAt
    have hown : s.vm.findClass R_law = some m.cls := findClass_of_methodNamed B.named
    have hts0 : ∀ c ∈ (Jvm.Cond.code x code maxLocals ret :: tables_1), c.before #[Value.ref b] s = true := atoms_spec (ws := Jvm.Cond.code x code maxLocals ret :: tables_1) B.pre
    have hts : ∀ w ∈ lw_tbl, w.before #[Value.ref b] s = true := k2_hts_sels lw_privs (fun w hw => hts0 w (List.mem_cons_of_mem _ hw)) lw_privs_ok
    have hml : c.maxLocals = 4 := B.maxLocals_eq (hts0 _ List.mem_cons_self)
    have X₀ : Stand p l e room_1 s m #[Value.ref b] below meth c s₁ [] 0 0 := Stand.of_body B
    have hh0 : s₁.heap = s.heap := by rw [B.state]; rfl
    have hsz : scr.slots.size = xs.length := by rw [← Array.length_toList, hlist, List.length_map]
    have hval : ∀ j : Nat, j < xs.length → scr.slots[j]? = some (.int (xs.getD j 0)) := fun j hj => by
      rw [← Array.getElem?_toList, hlist]
      simp [hj]
    have hbl : b < s.heap.size := (Array.getElem?_eq_some_iff.mp hcb).1
    have hX : va_X b xs.length (fun j => xs.getD j 0) s s.heap := ⟨scr, hcb, hof, hkn, hsz, hval⟩
    have K : W p l e room_1 s m #[Value.ref b] below meth c s₁.heap [] 0 0 (lw_Z below #[Value.ref b] s) (entryFrame m ([Value.ref b] : List Value).toArray 4) := by
      rw [hh0]
      exact whole_start l hbd ⟨B.exec, B.bytes, B.returns, hml, hown, hts, hX, hbl, B.notSynchronized, hgv⟩
    obtain ⟨t, a1, o, b1, b2, b3⟩ := K s₁ rfl X₀
    exact ⟨t, o, a1, b1, b2, b3⟩
theorem lw_pre_spec {args : Array Value} {s : State} (h : (Jvm.Cond.and given_1 narrow_1).before args s = true) (hr : rest_1_c.before args s = true) : ∃ (b : Addr) (xs : List Int32), lw_P b xs args s := by
  have hs := flat_of_before _ h
  have hq := flat_of_before _ hr
  have hc : (Cond.count 1).before args s = true := hs _ (by decide +kernel)
  have harr : (Cond.arrayOf (.arg 0) .int).before args s = true := hs _ (by decide +kernel)
  have hle : (Cond.le (.length (.arg 0)) (.int 320)).before args s = true := hs _ (by decide +kernel)
  have hlen : (Cond.isInt (.length (.arg 0))).before args s = true := hq _ (by decide +kernel)
  have hall : (Cond.all (.arg 0) (.isInt (.elem (.arg 0) (.index 0)))).before args s = true := hq _ (by decide +kernel)
  obtain ⟨b, xs, hb, hx⟩ := State.ints_of_pre rfl harr hlen hall
  have hsm : xs.length < 2 ^ 31 := hx.choose_spec.2.2.2
  have hev : (Term.length (.arg 0)).eval args s none [] s = some (.int xs.length.toInt32) := hx.length_eval hb
  have hv := Cond.le_ints hev (show (Term.int 320).eval args s none [] s = some (.int 320) from rfl)
  have hd : xs.length.toInt32 ≤ 320 := by
    simpa [Cond.before, Cond.holds, hv] using hle
  have hN : xs.length ≤ 320 := (Int32.ofNat_le_ofNat hsm (by decide)).mp (show Int32.ofNat xs.length ≤ Int32.ofNat 320 from hd)
  exact ⟨b, xs, Cond.one_arg hc (show args[0]? = some (.ref b) from hb), hx, hN, h⟩
theorem lw_comes (l : Launch) : Comes l x (Jvm.Cond.code x code maxLocals ret :: tables_1) room_1 (fun tb e args s => Calls_1 tb e args s ∧ rest_1 tb e args s ∧ Pre_1 tb e args s)
    (fun _ _ args s o t => lw_Q args s o t) := by
  intro p e ha hc hk s m args below hf hfit hheap happ hpre
  obtain ⟨b, xs, hP⟩ := lw_pre_spec hpre.2.2 hpre.2.1
  obtain ⟨k, o, h1, h2, h3, hQ⟩ := lw_walk l b xs p e ha hc hk s m args below hf ((Spec.applies_iff_loose hf).mp happ).1 hP trivial
  exact ⟨k, o, h1, h2, h3, hQ⟩
theorem lw_frame {s t : State} {o : Outcome} {args : Array Value} (h : Framed s o t [] 600000 7290000) :
    Framed s o t (fieldLocs frame_1_writes args s ++ arrayLocs frame_1_arrays args s ++ staticLocs frame_1_statics s) 600000 7290000 := h
theorem lw_limb (L : Cond) (hL : ∀ (args : Array Value) (s t : State), L.after args s (.returned (some (.int 1))) t = true) :
    ArmFor flags0 classFile x code maxLocals ret World_1 tables_1 room_1 Calls_1 rest_1 Pre_1
      (fun tb e a s o t => postC L tb e a s o t ∧ Framed s o t (fieldLocs frame_1_writes a s ++ arrayLocs frame_1_arrays a s ++ staticLocs frame_1_statics s) 600000 7290000) := by
  intro l _ _ _ p e ha hc hk s m args below hf hfit hheap happ hpre
  obtain ⟨k, o, h1, h2, h3, rfl, hF⟩ := lw_comes l p e ha hc hk s m args below hf hfit hheap happ hpre
  exact ⟨k, _, h1, h2, h3, hL args s _, lw_frame hF⟩
theorem i_vc : Claimed_1_1 ∧ Claimed_1_2 := ⟨lw_limb limb_1_1 (fun args s t => by simp [limb_1_1, Cond.after, Cond.holds, Cond.value]), lw_limb limb_1_2 (fun args s t => Cond.after_iff.mpr (by
  first | (rw [show limb_1_2 = Cond.eq .result (.int 1) from rfl, Cond.eq_ints (x := 1) (y := 1) rfl rfl]; simp; done) | (simp [limb_1_2, Cond.value, Term.eval]; done)))⟩
end
