section
-- ===== PART A: goes FIRST, ahead of the names: the tables' words, and 'selects' of the private methods out of them =====
/-- a private method of a class that the tables say can be made, by its rows of tables_1 -/
def lw_okq (q : MethodName × Nat) : Prop := (q.1.cls ≠ "java/lang/invoke/MethodHandle" ∧ q.1.cls ≠ "java/lang/invoke/VarHandle") ∧ Cond.instantiable q.1.cls q.2 ∈ tables_1 ∧ Cond.privateMethod q.1 ∈ tables_1 ∧ Cond.instanceMethod q.1 ∈ tables_1
set_option maxRecDepth 100000
theorem lw_t1 {w : Cond} (h : w ∈ tables_1_1) : w ∈ tables_1 := List.mem_append_left _ h
theorem lw_t2 {w : Cond} (h : w ∈ tables_1_2) : w ∈ tables_1 := List.mem_append_right _ h
theorem lw_p0 : lw_okq (⟨"ConstructiveDesk", "put", "(III)I"⟩, 9) := ⟨⟨by decide +kernel, by decide +kernel⟩, lw_t1 (List.mem_of_getElem? (i := 4) rfl), lw_t1 (List.mem_of_getElem? (i := 46) rfl), lw_t1 (List.mem_of_getElem? (i := 47) rfl)⟩
theorem lw_p1 : lw_okq (⟨"ConstructiveDesk", "missing", "(I)Z"⟩, 9) := ⟨⟨by decide +kernel, by decide +kernel⟩, lw_t1 (List.mem_of_getElem? (i := 4) rfl), lw_t1 (List.mem_of_getElem? (i := 58) rfl), lw_t1 (List.mem_of_getElem? (i := 59) rfl)⟩
theorem lw_p2 : lw_okq (⟨"ConstructiveDesk", "find", "()V"⟩, 9) := ⟨⟨by decide +kernel, by decide +kernel⟩, lw_t1 (List.mem_of_getElem? (i := 4) rfl), lw_t1 (List.mem_of_getElem? (i := 74) rfl), lw_t1 (List.mem_of_getElem? (i := 75) rfl)⟩
theorem lw_p3 : lw_okq (⟨"ConstructiveDesk", "every", "()I"⟩, 9) := ⟨⟨by decide +kernel, by decide +kernel⟩, lw_t1 (List.mem_of_getElem? (i := 4) rfl), lw_t1 (List.mem_of_getElem? (i := 78) rfl), lw_t1 (List.mem_of_getElem? (i := 79) rfl)⟩
theorem lw_p4 : lw_okq (⟨"ConstructiveDesk", "isWorld", "(I)Z"⟩, 9) := ⟨⟨by decide +kernel, by decide +kernel⟩, lw_t1 (List.mem_of_getElem? (i := 4) rfl), lw_t1 (List.mem_of_getElem? (i := 82) rfl), lw_t1 (List.mem_of_getElem? (i := 83) rfl)⟩
theorem lw_p5 : lw_okq (⟨"ConstructiveDesk", "keeps", "(I)Z"⟩, 9) := ⟨⟨by decide +kernel, by decide +kernel⟩, lw_t1 (List.mem_of_getElem? (i := 4) rfl), lw_t1 (List.mem_of_getElem? (i := 86) rfl), lw_t1 (List.mem_of_getElem? (i := 87) rfl)⟩
theorem lw_p6 : lw_okq (⟨"ConstructiveDesk", "in", "(II)Z"⟩, 9) := ⟨⟨by decide +kernel, by decide +kernel⟩, lw_t1 (List.mem_of_getElem? (i := 4) rfl), lw_t1 (List.mem_of_getElem? (i := 90) rfl), lw_t1 (List.mem_of_getElem? (i := 91) rfl)⟩
theorem lw_p7 : lw_okq (⟨"ConstructiveDesk", "parts", "(III)Z"⟩, 9) := ⟨⟨by decide +kernel, by decide +kernel⟩, lw_t1 (List.mem_of_getElem? (i := 4) rfl), lw_t1 (List.mem_of_getElem? (i := 94) rfl), lw_t1 (List.mem_of_getElem? (i := 95) rfl)⟩
theorem lw_p8 : lw_okq (⟨"ConstructiveDesk", "closure", "(I)I"⟩, 9) := ⟨⟨by decide +kernel, by decide +kernel⟩, lw_t1 (List.mem_of_getElem? (i := 4) rfl), lw_t1 (List.mem_of_getElem? (i := 98) rfl), lw_t1 (List.mem_of_getElem? (i := 99) rfl)⟩
theorem lw_p9 : lw_okq (⟨"ConstructiveDesk", "trueFor", "(I)I"⟩, 9) := ⟨⟨by decide +kernel, by decide +kernel⟩, lw_t1 (List.mem_of_getElem? (i := 4) rfl), lw_t1 (List.mem_of_getElem? (i := 110) rfl), lw_t1 (List.mem_of_getElem? (i := 111) rfl)⟩
theorem lw_p10 : lw_okq (⟨"ConstructiveDesk", "gather", "(II)Z"⟩, 9) := ⟨⟨by decide +kernel, by decide +kernel⟩, lw_t1 (List.mem_of_getElem? (i := 4) rfl), lw_t1 (List.mem_of_getElem? (i := 122) rfl), lw_t1 (List.mem_of_getElem? (i := 123) rfl)⟩
theorem lw_p11 : lw_okq (⟨"ConstructiveDesk", "sizeOf", "(I)I"⟩, 9) := ⟨⟨by decide +kernel, by decide +kernel⟩, lw_t1 (List.mem_of_getElem? (i := 4) rfl), lw_t1 (List.mem_of_getElem? (i := 126) rfl), lw_t1 (List.mem_of_getElem? (i := 127) rfl)⟩
theorem lw_p12 : lw_okq (⟨"ConstructiveDesk", "meetsAll", "(I)Z"⟩, 9) := ⟨⟨by decide +kernel, by decide +kernel⟩, lw_t1 (List.mem_of_getElem? (i := 4) rfl), lw_t1 (List.mem_of_getElem? (i := 130) rfl), lw_t1 (List.mem_of_getElem? (i := 131) rfl)⟩
theorem lw_p13 : lw_okq (⟨"ConstructiveDeskModel", "put", "(III)I"⟩, 7) := ⟨⟨by decide +kernel, by decide +kernel⟩, lw_t1 (List.mem_of_getElem? (i := 150) rfl), lw_t1 (List.mem_of_getElem? (i := 184) rfl), lw_t1 (List.mem_of_getElem? (i := 185) rfl)⟩
theorem lw_p14 : lw_okq (⟨"ConstructiveDeskModel", "find", "(III)I"⟩, 7) := ⟨⟨by decide +kernel, by decide +kernel⟩, lw_t1 (List.mem_of_getElem? (i := 150) rfl), lw_t1 (List.mem_of_getElem? (i := 188) rfl), lw_t1 (List.mem_of_getElem? (i := 189) rfl)⟩
theorem lw_p15 : lw_okq (⟨"ConstructiveDeskModel", "is", "(I)Z"⟩, 7) := ⟨⟨by decide +kernel, by decide +kernel⟩, lw_t1 (List.mem_of_getElem? (i := 150) rfl), lw_t1 (List.mem_of_getElem? (i := 200) rfl), lw_t1 (List.mem_of_getElem? (i := 201) rfl)⟩
def lw_privs_1 : List (MethodName × Nat) := [(⟨"ConstructiveDesk", "put", "(III)I"⟩, 9), (⟨"ConstructiveDesk", "missing", "(I)Z"⟩, 9), (⟨"ConstructiveDesk", "find", "()V"⟩, 9), (⟨"ConstructiveDesk", "every", "()I"⟩, 9), (⟨"ConstructiveDesk", "isWorld", "(I)Z"⟩, 9), (⟨"ConstructiveDesk", "keeps", "(I)Z"⟩, 9), (⟨"ConstructiveDesk", "in", "(II)Z"⟩, 9), (⟨"ConstructiveDesk", "parts", "(III)Z"⟩, 9), (⟨"ConstructiveDesk", "closure", "(I)I"⟩, 9), (⟨"ConstructiveDesk", "trueFor", "(I)I"⟩, 9), (⟨"ConstructiveDesk", "gather", "(II)Z"⟩, 9), (⟨"ConstructiveDesk", "sizeOf", "(I)I"⟩, 9), (⟨"ConstructiveDesk", "meetsAll", "(I)Z"⟩, 9), (⟨"ConstructiveDeskModel", "put", "(III)I"⟩, 7), (⟨"ConstructiveDeskModel", "find", "(III)I"⟩, 7), (⟨"ConstructiveDeskModel", "is", "(I)Z"⟩, 7)]
theorem lw_r1 : ∀ q ∈ lw_privs_1, lw_okq q := List.forall_mem_cons.mpr ⟨lw_p0, List.forall_mem_cons.mpr ⟨lw_p1, List.forall_mem_cons.mpr ⟨lw_p2, List.forall_mem_cons.mpr ⟨lw_p3, List.forall_mem_cons.mpr ⟨lw_p4, List.forall_mem_cons.mpr ⟨lw_p5, List.forall_mem_cons.mpr ⟨lw_p6, List.forall_mem_cons.mpr ⟨lw_p7, List.forall_mem_cons.mpr ⟨lw_p8, List.forall_mem_cons.mpr ⟨lw_p9, List.forall_mem_cons.mpr ⟨lw_p10, List.forall_mem_cons.mpr ⟨lw_p11, List.forall_mem_cons.mpr ⟨lw_p12, List.forall_mem_cons.mpr ⟨lw_p13, List.forall_mem_cons.mpr ⟨lw_p14, List.forall_mem_cons.mpr ⟨lw_p15, fun _ h => absurd h List.not_mem_nil⟩⟩⟩⟩⟩⟩⟩⟩⟩⟩⟩⟩⟩⟩⟩⟩
theorem lw_p16 : lw_okq (⟨"ConstructiveDeskModel", "taken", "(I)I"⟩, 7) := ⟨⟨by decide +kernel, by decide +kernel⟩, lw_t1 (List.mem_of_getElem? (i := 150) rfl), lw_t1 (List.mem_of_getElem? (i := 216) rfl), lw_t1 (List.mem_of_getElem? (i := 217) rfl)⟩
theorem lw_p17 : lw_okq (⟨"ConstructiveDeskModel", "work", "()V"⟩, 7) := ⟨⟨by decide +kernel, by decide +kernel⟩, lw_t1 (List.mem_of_getElem? (i := 150) rfl), lw_t1 (List.mem_of_getElem? (i := 220) rfl), lw_t1 (List.mem_of_getElem? (i := 221) rfl)⟩
theorem lw_p18 : lw_okq (⟨"ConstructiveDeskModel", "more", "(III)I"⟩, 7) := ⟨⟨by decide +kernel, by decide +kernel⟩, lw_t1 (List.mem_of_getElem? (i := 150) rfl), lw_t1 (List.mem_of_getElem? (i := 224) rfl), lw_t1 (List.mem_of_getElem? (i := 225) rfl)⟩
theorem lw_p19 : lw_okq (⟨"ConstructiveDeskModel", "has", "(II)Z"⟩, 7) := ⟨⟨by decide +kernel, by decide +kernel⟩, lw_t1 (List.mem_of_getElem? (i := 150) rfl), lw_t1 (List.mem_of_getElem? (i := 228) rfl), lw_t1 (List.mem_of_getElem? (i := 229) rfl)⟩
theorem lw_p20 : lw_okq (⟨"ConstructiveDeskModel", "with", "(III)I"⟩, 7) := ⟨⟨by decide +kernel, by decide +kernel⟩, lw_t1 (List.mem_of_getElem? (i := 150) rfl), lw_t1 (List.mem_of_getElem? (i := 232) rfl), lw_t1 (List.mem_of_getElem? (i := 233) rfl)⟩
theorem lw_p21 : lw_okq (⟨"ConstructiveDeskModel", "judge", "(I)V"⟩, 7) := ⟨⟨by decide +kernel, by decide +kernel⟩, lw_t1 (List.mem_of_getElem? (i := 150) rfl), lw_t2 (List.mem_of_getElem? (i := 4) rfl), lw_t2 (List.mem_of_getElem? (i := 5) rfl)⟩
theorem lw_p22 : lw_okq (⟨"ConstructiveDeskModel", "count", "(I)I"⟩, 7) := ⟨⟨by decide +kernel, by decide +kernel⟩, lw_t1 (List.mem_of_getElem? (i := 150) rfl), lw_t2 (List.mem_of_getElem? (i := 16) rfl), lw_t2 (List.mem_of_getElem? (i := 17) rfl)⟩
theorem lw_p23 : lw_okq (⟨"ConstructiveDeskModel", "isWorld", "(I)Z"⟩, 7) := ⟨⟨by decide +kernel, by decide +kernel⟩, lw_t1 (List.mem_of_getElem? (i := 150) rfl), lw_t2 (List.mem_of_getElem? (i := 24) rfl), lw_t2 (List.mem_of_getElem? (i := 25) rfl)⟩
def lw_privs_2 : List (MethodName × Nat) := [(⟨"ConstructiveDeskModel", "taken", "(I)I"⟩, 7), (⟨"ConstructiveDeskModel", "work", "()V"⟩, 7), (⟨"ConstructiveDeskModel", "more", "(III)I"⟩, 7), (⟨"ConstructiveDeskModel", "has", "(II)Z"⟩, 7), (⟨"ConstructiveDeskModel", "with", "(III)I"⟩, 7), (⟨"ConstructiveDeskModel", "judge", "(I)V"⟩, 7), (⟨"ConstructiveDeskModel", "count", "(I)I"⟩, 7), (⟨"ConstructiveDeskModel", "isWorld", "(I)Z"⟩, 7)]
theorem lw_r2 : ∀ q ∈ lw_privs_2, lw_okq q := List.forall_mem_cons.mpr ⟨lw_p16, List.forall_mem_cons.mpr ⟨lw_p17, List.forall_mem_cons.mpr ⟨lw_p18, List.forall_mem_cons.mpr ⟨lw_p19, List.forall_mem_cons.mpr ⟨lw_p20, List.forall_mem_cons.mpr ⟨lw_p21, List.forall_mem_cons.mpr ⟨lw_p22, List.forall_mem_cons.mpr ⟨lw_p23, fun _ h => absurd h List.not_mem_nil⟩⟩⟩⟩⟩⟩⟩⟩
def lw_privs : List (MethodName × Nat) := lw_privs_1 ++ (lw_privs_2)
def lw_tbl : List Cond := k2_sels lw_privs ++ tables_1
theorem lw_privs_ok : ∀ q ∈ lw_privs, lw_okq q := by
  show ∀ q ∈ lw_privs_1 ++ (lw_privs_2), lw_okq q
  exact List.forall_mem_append.mpr ⟨lw_r1, lw_r2⟩
-- ===== ONE list of words for every method: the tables' words that hold all through a run =====
def lw_all : List Cond := lw_tbl.filter goodWord
/-- a word of the tables by its place: claim/WORDS.tsv -/
theorem lw_w {w : Cond} (i : Nat) (h : lw_tbl[i]? = some w) (g : goodWord w = true) : w ∈ lw_all := List.mem_filter.mpr ⟨List.mem_of_getElem? h, g⟩
theorem lw_all_tbl {w : Cond} (h : w ∈ lw_all) : w ∈ lw_tbl := (List.mem_filter.mp h).1
theorem lw_self : GoodIn lw_all lw_all := fun w h => ⟨h, good_of_word (List.mem_filter.mp h).2⟩
/-- a class's field words, by their places -/
theorem lw_in (ws : List Cond) (ps : List Nat) (hp : ws = ps.filterMap (fun i => lw_tbl[i]?)) (hg : ws.all goodWord = true) : ∀ w ∈ ws, w ∈ lw_all := by
  intro w h
  have h1 := List.all_eq_true.mp hg w h
  rw [hp] at h
  obtain ⟨i, -, hi⟩ := List.mem_filterMap.mp h
  exact lw_w i hi h1
/-- the words of a contract for the method y with code b, L locals, answer r -/
abbrev ws_ (y : MethodName) (b : ByteArray) (L : Nat) (r : Option FieldType) : List Cond := Cond.code y b L r :: lw_all
theorem lw_meth {y : MethodName} {b : ByteArray} {L : Nat} {r : Option FieldType} (h : Cond.code y b L r ∈ lw_all) : GoodIn lw_all (ws_ y b L r) := by
  intro w hw
  rcases List.mem_cons.mp hw with e | e
  · rw [e]
    exact lw_self _ h
  · exact lw_self _ e
theorem lw_app {a c : List Cond} (ha : ∀ w ∈ a, w ∈ lw_all) (hc : GoodIn lw_all c) : GoodIn lw_all (a ++ c) := by
  intro w hw
  rcases List.mem_append.mp hw with e | e
  · exact lw_self w (ha w e)
  · exact hc w e
/-- what a call through an object asks: cwV n hts (lw_V ..) -/
theorem lw_V {own : String} {idx : Nat} {C : String} {y : MethodName} {b : ByteArray} {L : Nat} {r : Option FieldType} (h1 : Cond.methodLink own idx y ∈ lw_all) (h2 : Cond.instanceMethod y ∈ lw_all) (h3 : Cond.selects C y y ∈ lw_all) (h4 : Cond.initialized C ∈ lw_all) (h5 : Cond.code y b L r ∈ lw_all) : GoodIn lw_all (wsV own idx C y (ws_ y b L r)) := by
  refine lw_app ?_ (lw_meth h5)
  intro w hw
  simp only [List.mem_cons, List.not_mem_nil, or_false] at hw
  rcases hw with e | e | e | e
  · rw [e]; exact h1
  · rw [e]; exact h2
  · rw [e]; exact h3
  · rw [e]; exact h4
/-- what a static call asks: va_cwS n hts (lw_S ..) -/
theorem lw_S {own : String} {idx : Nat} {y : MethodName} {b : ByteArray} {L : Nat} {r : Option FieldType} (h1 : Cond.methodLink own idx y ∈ lw_all) (h2 : Cond.static y ∈ lw_all) (h3 : Cond.initialized y.cls ∈ lw_all) (h4 : Cond.code y b L r ∈ lw_all) : GoodIn lw_all (va_wsS own idx y (ws_ y b L r)) := by
  refine lw_app ?_ (lw_meth h4)
  intro w hw
  simp only [List.mem_cons, List.not_mem_nil, or_false] at hw
  rcases hw with e | e | e
  · rw [e]; exact h1
  · rw [e]; exact h2
  · rw [e]; exact h3
/-- the words of a contract for a method WITH HANDLERS (hh: its table) -/
abbrev wsW_ (y : MethodName) (b : ByteArray) (L : Nat) (r : Option FieldType) (hh : List (Nat × Nat × Nat × Nat)) : List Cond := Cond.codeWith y b L r hh :: lw_all
theorem lw_methW {y : MethodName} {b : ByteArray} {L : Nat} {r : Option FieldType} {hh : List (Nat × Nat × Nat × Nat)} (h : Cond.codeWith y b L r hh ∈ lw_all) : GoodIn lw_all (wsW_ y b L r hh) := by
  intro w hw
  rcases List.mem_cons.mp hw with e | e
  · rw [e]
    exact lw_self _ h
  · exact lw_self _ e
/-- any list of words by their places (lw_in), good -/
theorem lw_good {ws : List Cond} (h : ∀ w ∈ ws, w ∈ lw_all) : GoodIn lw_all ws := fun w hw => lw_self w (h w hw)
/-- what a call of a method with handlers asks: vx_cwVW n hts (lw_VW ..), vx_cwSW n hts (lw_SW ..) -/
theorem lw_VW {own : String} {idx : Nat} {C : String} {y : MethodName} {b : ByteArray} {L : Nat} {r : Option FieldType} {hh : List (Nat × Nat × Nat × Nat)} (h1 : Cond.methodLink own idx y ∈ lw_all) (h2 : Cond.instanceMethod y ∈ lw_all) (h3 : Cond.selects C y y ∈ lw_all) (h4 : Cond.initialized C ∈ lw_all) (h5 : Cond.codeWith y b L r hh ∈ lw_all) : GoodIn lw_all (wsV own idx C y (wsW_ y b L r hh)) := by
  refine lw_app ?_ (lw_methW h5)
  intro w hw
  simp only [List.mem_cons, List.not_mem_nil, or_false] at hw
  rcases hw with e | e | e | e
  · rw [e]; exact h1
  · rw [e]; exact h2
  · rw [e]; exact h3
  · rw [e]; exact h4
theorem lw_SW {own : String} {idx : Nat} {y : MethodName} {b : ByteArray} {L : Nat} {r : Option FieldType} {hh : List (Nat × Nat × Nat × Nat)} (h1 : Cond.methodLink own idx y ∈ lw_all) (h2 : Cond.static y ∈ lw_all) (h3 : Cond.initialized y.cls ∈ lw_all) (h4 : Cond.codeWith y b L r hh ∈ lw_all) : GoodIn lw_all (va_wsS own idx y (wsW_ y b L r hh)) := by
  refine lw_app ?_ (lw_methW h4)
  intro w hw
  simp only [List.mem_cons, List.not_mem_nil, or_false] at hw
  rcases hw with e | e | e
  · rw [e]; exact h1
  · rw [e]; exact h2
  · rw [e]; exact h3
/-- a word by its place in its run of the tables -/
theorem lw_at {r : List Cond} (hr : ∀ w ∈ r, w ∈ lw_tbl) {w : Cond} (i : Nat) (h : r[i]? = some w) : w ∈ lw_tbl := hr w (List.mem_of_getElem? h)
theorem lw_g {w : Cond} (h : w ∈ lw_tbl) (g : goodWord w = true) : w ∈ lw_all := List.mem_filter.mpr ⟨h, g⟩
theorem lw_ms : ∀ w ∈ k2_sels lw_privs, w ∈ lw_tbl := fun w h => show w ∈ k2_sels lw_privs ++ tables_1 from List.mem_append_left _ h
theorem lw_m1 : ∀ w ∈ tables_1_1, w ∈ lw_tbl := fun w h => show w ∈ k2_sels lw_privs ++ tables_1 from List.mem_append_right (k2_sels lw_privs) (show w ∈ tables_1 from List.mem_append_left _ h)
theorem lw_m2 : ∀ w ∈ tables_1_2, w ∈ lw_tbl := fun w h => show w ∈ k2_sels lw_privs ++ tables_1 from List.mem_append_right (k2_sels lw_privs) (show w ∈ tables_1 from List.mem_append_right _ h)
theorem qs0 : (Cond.selects "ConstructiveDesk" ⟨"ConstructiveDesk", "put", "(III)I"⟩ ⟨"ConstructiveDesk", "put", "(III)I"⟩) ∈ lw_all := lw_g (lw_at lw_ms 0 rfl) rfl
theorem qs1 : (Cond.selects "ConstructiveDesk" ⟨"ConstructiveDesk", "missing", "(I)Z"⟩ ⟨"ConstructiveDesk", "missing", "(I)Z"⟩) ∈ lw_all := lw_g (lw_at lw_ms 1 rfl) rfl
theorem qs2 : (Cond.selects "ConstructiveDesk" ⟨"ConstructiveDesk", "find", "()V"⟩ ⟨"ConstructiveDesk", "find", "()V"⟩) ∈ lw_all := lw_g (lw_at lw_ms 2 rfl) rfl
theorem qs3 : (Cond.selects "ConstructiveDesk" ⟨"ConstructiveDesk", "every", "()I"⟩ ⟨"ConstructiveDesk", "every", "()I"⟩) ∈ lw_all := lw_g (lw_at lw_ms 3 rfl) rfl
theorem qs4 : (Cond.selects "ConstructiveDesk" ⟨"ConstructiveDesk", "isWorld", "(I)Z"⟩ ⟨"ConstructiveDesk", "isWorld", "(I)Z"⟩) ∈ lw_all := lw_g (lw_at lw_ms 4 rfl) rfl
theorem qs5 : (Cond.selects "ConstructiveDesk" ⟨"ConstructiveDesk", "keeps", "(I)Z"⟩ ⟨"ConstructiveDesk", "keeps", "(I)Z"⟩) ∈ lw_all := lw_g (lw_at lw_ms 5 rfl) rfl
theorem qs6 : (Cond.selects "ConstructiveDesk" ⟨"ConstructiveDesk", "in", "(II)Z"⟩ ⟨"ConstructiveDesk", "in", "(II)Z"⟩) ∈ lw_all := lw_g (lw_at lw_ms 6 rfl) rfl
theorem qs7 : (Cond.selects "ConstructiveDesk" ⟨"ConstructiveDesk", "parts", "(III)Z"⟩ ⟨"ConstructiveDesk", "parts", "(III)Z"⟩) ∈ lw_all := lw_g (lw_at lw_ms 7 rfl) rfl
theorem qs8 : (Cond.selects "ConstructiveDesk" ⟨"ConstructiveDesk", "closure", "(I)I"⟩ ⟨"ConstructiveDesk", "closure", "(I)I"⟩) ∈ lw_all := lw_g (lw_at lw_ms 8 rfl) rfl
theorem qs9 : (Cond.selects "ConstructiveDesk" ⟨"ConstructiveDesk", "trueFor", "(I)I"⟩ ⟨"ConstructiveDesk", "trueFor", "(I)I"⟩) ∈ lw_all := lw_g (lw_at lw_ms 9 rfl) rfl
theorem qs10 : (Cond.selects "ConstructiveDesk" ⟨"ConstructiveDesk", "gather", "(II)Z"⟩ ⟨"ConstructiveDesk", "gather", "(II)Z"⟩) ∈ lw_all := lw_g (lw_at lw_ms 10 rfl) rfl
theorem qs11 : (Cond.selects "ConstructiveDesk" ⟨"ConstructiveDesk", "sizeOf", "(I)I"⟩ ⟨"ConstructiveDesk", "sizeOf", "(I)I"⟩) ∈ lw_all := lw_g (lw_at lw_ms 11 rfl) rfl
theorem qs12 : (Cond.selects "ConstructiveDesk" ⟨"ConstructiveDesk", "meetsAll", "(I)Z"⟩ ⟨"ConstructiveDesk", "meetsAll", "(I)Z"⟩) ∈ lw_all := lw_g (lw_at lw_ms 12 rfl) rfl
theorem qs13 : (Cond.selects "ConstructiveDeskModel" ⟨"ConstructiveDeskModel", "put", "(III)I"⟩ ⟨"ConstructiveDeskModel", "put", "(III)I"⟩) ∈ lw_all := lw_g (lw_at lw_ms 13 rfl) rfl
theorem qs14 : (Cond.selects "ConstructiveDeskModel" ⟨"ConstructiveDeskModel", "find", "(III)I"⟩ ⟨"ConstructiveDeskModel", "find", "(III)I"⟩) ∈ lw_all := lw_g (lw_at lw_ms 14 rfl) rfl
theorem qs15 : (Cond.selects "ConstructiveDeskModel" ⟨"ConstructiveDeskModel", "is", "(I)Z"⟩ ⟨"ConstructiveDeskModel", "is", "(I)Z"⟩) ∈ lw_all := lw_g (lw_at lw_ms 15 rfl) rfl
theorem qs16 : (Cond.selects "ConstructiveDeskModel" ⟨"ConstructiveDeskModel", "taken", "(I)I"⟩ ⟨"ConstructiveDeskModel", "taken", "(I)I"⟩) ∈ lw_all := lw_g (lw_at lw_ms 16 rfl) rfl
theorem qs17 : (Cond.selects "ConstructiveDeskModel" ⟨"ConstructiveDeskModel", "work", "()V"⟩ ⟨"ConstructiveDeskModel", "work", "()V"⟩) ∈ lw_all := lw_g (lw_at lw_ms 17 rfl) rfl
theorem qs18 : (Cond.selects "ConstructiveDeskModel" ⟨"ConstructiveDeskModel", "more", "(III)I"⟩ ⟨"ConstructiveDeskModel", "more", "(III)I"⟩) ∈ lw_all := lw_g (lw_at lw_ms 18 rfl) rfl
theorem qs19 : (Cond.selects "ConstructiveDeskModel" ⟨"ConstructiveDeskModel", "has", "(II)Z"⟩ ⟨"ConstructiveDeskModel", "has", "(II)Z"⟩) ∈ lw_all := lw_g (lw_at lw_ms 19 rfl) rfl
theorem qs20 : (Cond.selects "ConstructiveDeskModel" ⟨"ConstructiveDeskModel", "with", "(III)I"⟩ ⟨"ConstructiveDeskModel", "with", "(III)I"⟩) ∈ lw_all := lw_g (lw_at lw_ms 20 rfl) rfl
theorem qs21 : (Cond.selects "ConstructiveDeskModel" ⟨"ConstructiveDeskModel", "judge", "(I)V"⟩ ⟨"ConstructiveDeskModel", "judge", "(I)V"⟩) ∈ lw_all := lw_g (lw_at lw_ms 21 rfl) rfl
theorem qs22 : (Cond.selects "ConstructiveDeskModel" ⟨"ConstructiveDeskModel", "count", "(I)I"⟩ ⟨"ConstructiveDeskModel", "count", "(I)I"⟩) ∈ lw_all := lw_g (lw_at lw_ms 22 rfl) rfl
theorem qs23 : (Cond.selects "ConstructiveDeskModel" ⟨"ConstructiveDeskModel", "isWorld", "(I)Z"⟩ ⟨"ConstructiveDeskModel", "isWorld", "(I)Z"⟩) ∈ lw_all := lw_g (lw_at lw_ms 23 rfl) rfl
end
section
set_option maxRecDepth 100000
/-! java/lang/Object -/
def RJ0 : String := "java/lang/Object"
abbrev cJ0_init : ByteArray := object_method_1_code
def yJ0_init : MethodName := ⟨RJ0, "<init>", "()V"⟩
theorem q33 : (Jvm.Cond.instanceMethod ({ cls := "java/lang/Object", name := "<init>", desc := "()V" } : Jvm.MethodName)) ∈ lw_all := lw_g (lw_at lw_m1 9 rfl) rfl
theorem q34 : (Jvm.Cond.code ({ cls := "java/lang/Object", name := "<init>", desc := "()V" } : Jvm.MethodName) object_method_1_code (1 : Nat) (Option.none : Option Jvm.ClassFile.FieldType)) ∈ lw_all := lw_g (lw_at lw_m1 10 rfl) rfl
/-! ConstructiveDesk -/
def RX0 : String := "ConstructiveDesk"
def TX0 : u_T := fun k => match k with
  | 0 => ("ConstructiveDesk", "count", "I", false)
  | 1 => ("ConstructiveDesk", "kind", "[B", true)
  | 2 => ("ConstructiveDesk", "left", "[B", true)
  | 3 => ("ConstructiveDesk", "right", "[B", true)
  | 4 => ("ConstructiveDesk", "known", "Z", false)
  | 5 => ("ConstructiveDesk", "found", "I", false)
  | 6 => ("ConstructiveDesk", "world", "[S", true)
  | 7 => ("ConstructiveDesk", "hurdles", "I", false)
  | _ => ("ConstructiveDesk", "hurdle", "[S", true)
def tyX0 : Nat → FieldType := fun k => match k with
  | 0 => .int
  | 1 => .array .byte
  | 2 => .array .byte
  | 3 => .array .byte
  | 4 => .boolean
  | 5 => .int
  | 6 => .array .short
  | 7 => .int
  | _ => .array .short
abbrev wsX00 : List Cond := u_ws RX0 TX0 9
theorem nmX0 : ∀ a, a < 9 → ∀ b, b < 9 → a ≠ b → (TX0 a).2.1 ≠ (TX0 b).2.1 := by decide +kernel
theorem tyX0_ok : ∀ k, k < 9 → parseFieldDescriptor (TX0 k).2.2.1 = some (tyX0 k) := by decide +kernel
abbrev cX0_init : ByteArray := prog_1_method_1_code
def yX0_init : MethodName := ⟨RX0, "<init>", "()V"⟩
abbrev cX0_atom : ByteArray := prog_1_method_4_code
def yX0_atom : MethodName := ⟨RX0, "atom", "(I)I"⟩
abbrev cX0_put : ByteArray := prog_1_method_2_code
def yX0_put : MethodName := ⟨RX0, "put", "(III)I"⟩
abbrev cX0_falsum : ByteArray := prog_1_method_5_code
def yX0_falsum : MethodName := ⟨RX0, "falsum", "()I"⟩
abbrev cX0_join : ByteArray := prog_1_method_6_code
def yX0_join : MethodName := ⟨RX0, "join", "(III)I"⟩
abbrev cX0_missing : ByteArray := prog_1_method_3_code
def yX0_missing : MethodName := ⟨RX0, "missing", "(I)Z"⟩
abbrev cX0_drop : ByteArray := prog_1_method_7_code
def yX0_drop : MethodName := ⟨RX0, "drop", "()I"⟩
abbrev cX0_size : ByteArray := prog_1_method_8_code
def yX0_size : MethodName := ⟨RX0, "size", "()I"⟩
abbrev cX0_follows : ByteArray := prog_1_method_16_code
def yX0_follows : MethodName := ⟨RX0, "follows", "(II)I"⟩
abbrev cX0_find : ByteArray := prog_1_method_14_code
def yX0_find : MethodName := ⟨RX0, "find", "()V"⟩
abbrev cX0_every : ByteArray := prog_1_method_10_code
def yX0_every : MethodName := ⟨RX0, "every", "()I"⟩
abbrev cX0_isWorld : ByteArray := prog_1_method_13_code
def yX0_isWorld : MethodName := ⟨RX0, "isWorld", "(I)Z"⟩
abbrev cX0_keeps : ByteArray := prog_1_method_11_code
def yX0_keeps : MethodName := ⟨RX0, "keeps", "(I)Z"⟩
abbrev cX0_in : ByteArray := prog_1_method_9_code
def yX0_in : MethodName := ⟨RX0, "in", "(II)Z"⟩
abbrev cX0_parts : ByteArray := prog_1_method_12_code
def yX0_parts : MethodName := ⟨RX0, "parts", "(III)Z"⟩
abbrev cX0_closure : ByteArray := prog_1_method_15_code
def yX0_closure : MethodName := ⟨RX0, "closure", "(I)I"⟩
abbrev cX0_all : ByteArray := prog_1_method_17_code
def yX0_all : MethodName := ⟨RX0, "all", "(I)I"⟩
abbrev cX0_classically : ByteArray := prog_1_method_19_code
def yX0_classically : MethodName := ⟨RX0, "classically", "(II)I"⟩
abbrev cX0_trueFor : ByteArray := prog_1_method_18_code
def yX0_trueFor : MethodName := ⟨RX0, "trueFor", "(I)I"⟩
abbrev cX0_alike : ByteArray := prog_1_method_20_code
def yX0_alike : MethodName := ⟨RX0, "alike", "(II)I"⟩
abbrev cX0_enough : ByteArray := prog_1_method_24_code
def yX0_enough : MethodName := ⟨RX0, "enough", "(II)I"⟩
abbrev cX0_gather : ByteArray := prog_1_method_21_code
def yX0_gather : MethodName := ⟨RX0, "gather", "(II)Z"⟩
abbrev cX0_sizeOf : ByteArray := prog_1_method_23_code
def yX0_sizeOf : MethodName := ⟨RX0, "sizeOf", "(I)I"⟩
abbrev cX0_meetsAll : ByteArray := prog_1_method_22_code
def yX0_meetsAll : MethodName := ⟨RX0, "meetsAll", "(I)Z"⟩
abbrev cX0_saturated : ByteArray := prog_1_method_25_code
def yX0_saturated : MethodName := ⟨RX0, "saturated", "(I)I"⟩
abbrev cX0_worlds : ByteArray := prog_1_method_26_code
def yX0_worlds : MethodName := ⟨RX0, "worlds", "()I"⟩
abbrev cX0_against : ByteArray := prog_1_method_27_code
def yX0_against : MethodName := ⟨RX0, "against", "(II)I"⟩
abbrev cX0_closedSets : ByteArray := prog_1_method_28_code
def yX0_closedSets : MethodName := ⟨RX0, "closedSets", "()I"⟩
theorem q25 : (Jvm.Cond.initialized "ConstructiveDesk") ∈ lw_all := lw_g (lw_at lw_m1 1 rfl) rfl
theorem q28 : (Jvm.Cond.instantiable "ConstructiveDesk" (9 : Nat)) ∈ lw_all := lw_g (lw_at lw_m1 4 rfl) rfl
theorem q30 : (Jvm.Cond.instanceMethod ({ cls := "ConstructiveDesk", name := "<init>", desc := "()V" } : Jvm.MethodName)) ∈ lw_all := lw_g (lw_at lw_m1 6 rfl) rfl
theorem q31 : (Jvm.Cond.code ({ cls := "ConstructiveDesk", name := "<init>", desc := "()V" } : Jvm.MethodName) prog_1_method_1_code (1 : Nat) (Option.none : Option Jvm.ClassFile.FieldType)) ∈ lw_all := lw_g (lw_at lw_m1 7 rfl) rfl
theorem q32 : (Jvm.Cond.methodLink "ConstructiveDesk" (1 : Nat) ({ cls := "java/lang/Object", name := "<init>", desc := "()V" } : Jvm.MethodName)) ∈ lw_all := lw_g (lw_at lw_m1 8 rfl) rfl
theorem q35 : (Jvm.Cond.fieldLink "ConstructiveDesk" (26 : Nat) "ConstructiveDesk" "count" "I") ∈ lw_all := lw_g (lw_at lw_m1 11 rfl) rfl
theorem q36 : (Jvm.Cond.fieldLink "ConstructiveDesk" (7 : Nat) "ConstructiveDesk" "kind" "[B") ∈ lw_all := lw_g (lw_at lw_m1 12 rfl) rfl
theorem q37 : (Jvm.Cond.fieldLink "ConstructiveDesk" (13 : Nat) "ConstructiveDesk" "left" "[B") ∈ lw_all := lw_g (lw_at lw_m1 13 rfl) rfl
theorem q38 : (Jvm.Cond.fieldLink "ConstructiveDesk" (16 : Nat) "ConstructiveDesk" "right" "[B") ∈ lw_all := lw_g (lw_at lw_m1 14 rfl) rfl
theorem q39 : (Jvm.Cond.fieldLink "ConstructiveDesk" (30 : Nat) "ConstructiveDesk" "known" "Z") ∈ lw_all := lw_g (lw_at lw_m1 15 rfl) rfl
theorem q40 : (Jvm.Cond.fieldLink "ConstructiveDesk" (46 : Nat) "ConstructiveDesk" "found" "I") ∈ lw_all := lw_g (lw_at lw_m1 16 rfl) rfl
theorem q41 : (Jvm.Cond.fieldLink "ConstructiveDesk" (19 : Nat) "ConstructiveDesk" "world" "[S") ∈ lw_all := lw_g (lw_at lw_m1 17 rfl) rfl
theorem q42 : (Jvm.Cond.fieldLink "ConstructiveDesk" (73 : Nat) "ConstructiveDesk" "hurdles" "I") ∈ lw_all := lw_g (lw_at lw_m1 18 rfl) rfl
theorem q43 : (Jvm.Cond.fieldLink "ConstructiveDesk" (23 : Nat) "ConstructiveDesk" "hurdle" "[S") ∈ lw_all := lw_g (lw_at lw_m1 19 rfl) rfl
theorem q44 : (Jvm.Cond.lays "ConstructiveDesk" "ConstructiveDesk" "count" "I") ∈ lw_all := lw_g (lw_at lw_m1 20 rfl) rfl
theorem q45 : (Jvm.Cond.soleField "ConstructiveDesk" "count") ∈ lw_all := lw_g (lw_at lw_m1 21 rfl) rfl
theorem q46 : (Jvm.Cond.laysFinal "ConstructiveDesk" "ConstructiveDesk" "kind" "[B") ∈ lw_all := lw_g (lw_at lw_m1 22 rfl) rfl
theorem q47 : (Jvm.Cond.soleField "ConstructiveDesk" "kind") ∈ lw_all := lw_g (lw_at lw_m1 23 rfl) rfl
theorem q48 : (Jvm.Cond.laysFinal "ConstructiveDesk" "ConstructiveDesk" "left" "[B") ∈ lw_all := lw_g (lw_at lw_m1 24 rfl) rfl
theorem q49 : (Jvm.Cond.soleField "ConstructiveDesk" "left") ∈ lw_all := lw_g (lw_at lw_m1 25 rfl) rfl
theorem q50 : (Jvm.Cond.laysFinal "ConstructiveDesk" "ConstructiveDesk" "right" "[B") ∈ lw_all := lw_g (lw_at lw_m1 26 rfl) rfl
theorem q51 : (Jvm.Cond.soleField "ConstructiveDesk" "right") ∈ lw_all := lw_g (lw_at lw_m1 27 rfl) rfl
theorem q52 : (Jvm.Cond.lays "ConstructiveDesk" "ConstructiveDesk" "known" "Z") ∈ lw_all := lw_g (lw_at lw_m1 28 rfl) rfl
theorem q53 : (Jvm.Cond.soleField "ConstructiveDesk" "known") ∈ lw_all := lw_g (lw_at lw_m1 29 rfl) rfl
theorem q54 : (Jvm.Cond.lays "ConstructiveDesk" "ConstructiveDesk" "found" "I") ∈ lw_all := lw_g (lw_at lw_m1 30 rfl) rfl
theorem q55 : (Jvm.Cond.soleField "ConstructiveDesk" "found") ∈ lw_all := lw_g (lw_at lw_m1 31 rfl) rfl
theorem q56 : (Jvm.Cond.laysFinal "ConstructiveDesk" "ConstructiveDesk" "world" "[S") ∈ lw_all := lw_g (lw_at lw_m1 32 rfl) rfl
theorem q57 : (Jvm.Cond.soleField "ConstructiveDesk" "world") ∈ lw_all := lw_g (lw_at lw_m1 33 rfl) rfl
theorem q58 : (Jvm.Cond.lays "ConstructiveDesk" "ConstructiveDesk" "hurdles" "I") ∈ lw_all := lw_g (lw_at lw_m1 34 rfl) rfl
theorem q59 : (Jvm.Cond.soleField "ConstructiveDesk" "hurdles") ∈ lw_all := lw_g (lw_at lw_m1 35 rfl) rfl
theorem q60 : (Jvm.Cond.laysFinal "ConstructiveDesk" "ConstructiveDesk" "hurdle" "[S") ∈ lw_all := lw_g (lw_at lw_m1 36 rfl) rfl
theorem q61 : (Jvm.Cond.soleField "ConstructiveDesk" "hurdle") ∈ lw_all := lw_g (lw_at lw_m1 37 rfl) rfl
theorem q62 : (Jvm.Cond.superclass "ConstructiveDesk" "java/lang/Object") ∈ lw_all := lw_g (lw_at lw_m1 38 rfl) rfl
theorem q66 : (Jvm.Cond.instanceMethod ({ cls := "ConstructiveDesk", name := "atom", desc := "(I)I" } : Jvm.MethodName)) ∈ lw_all := lw_g (lw_at lw_m1 42 rfl) rfl
theorem q67 : (Jvm.Cond.selects "ConstructiveDesk" ({ cls := "ConstructiveDesk", name := "atom", desc := "(I)I" } : Jvm.MethodName) ({ cls := "ConstructiveDesk", name := "atom", desc := "(I)I" } : Jvm.MethodName)) ∈ lw_all := lw_g (lw_at lw_m1 43 rfl) rfl
theorem q68 : (Jvm.Cond.code ({ cls := "ConstructiveDesk", name := "atom", desc := "(I)I" } : Jvm.MethodName) prog_1_method_4_code (2 : Nat) (Option.some Jvm.ClassFile.FieldType.int)) ∈ lw_all := lw_g (lw_at lw_m1 44 rfl) rfl
theorem q69 : (Jvm.Cond.methodLink "ConstructiveDesk" (34 : Nat) ({ cls := "ConstructiveDesk", name := "put", desc := "(III)I" } : Jvm.MethodName)) ∈ lw_all := lw_g (lw_at lw_m1 45 rfl) rfl
theorem q70 : (Jvm.Cond.privateMethod ({ cls := "ConstructiveDesk", name := "put", desc := "(III)I" } : Jvm.MethodName)) ∈ lw_tbl := lw_at lw_m1 46 rfl
theorem q71 : (Jvm.Cond.instanceMethod ({ cls := "ConstructiveDesk", name := "put", desc := "(III)I" } : Jvm.MethodName)) ∈ lw_all := lw_g (lw_at lw_m1 47 rfl) rfl
theorem q72 : (Jvm.Cond.code ({ cls := "ConstructiveDesk", name := "put", desc := "(III)I" } : Jvm.MethodName) prog_1_method_2_code (5 : Nat) (Option.some Jvm.ClassFile.FieldType.int)) ∈ lw_all := lw_g (lw_at lw_m1 48 rfl) rfl
theorem q74 : (Jvm.Cond.instanceMethod ({ cls := "ConstructiveDesk", name := "falsum", desc := "()I" } : Jvm.MethodName)) ∈ lw_all := lw_g (lw_at lw_m1 50 rfl) rfl
theorem q75 : (Jvm.Cond.selects "ConstructiveDesk" ({ cls := "ConstructiveDesk", name := "falsum", desc := "()I" } : Jvm.MethodName) ({ cls := "ConstructiveDesk", name := "falsum", desc := "()I" } : Jvm.MethodName)) ∈ lw_all := lw_g (lw_at lw_m1 51 rfl) rfl
theorem q76 : (Jvm.Cond.code ({ cls := "ConstructiveDesk", name := "falsum", desc := "()I" } : Jvm.MethodName) prog_1_method_5_code (1 : Nat) (Option.some Jvm.ClassFile.FieldType.int)) ∈ lw_all := lw_g (lw_at lw_m1 52 rfl) rfl
theorem q78 : (Jvm.Cond.instanceMethod ({ cls := "ConstructiveDesk", name := "join", desc := "(III)I" } : Jvm.MethodName)) ∈ lw_all := lw_g (lw_at lw_m1 54 rfl) rfl
theorem q79 : (Jvm.Cond.selects "ConstructiveDesk" ({ cls := "ConstructiveDesk", name := "join", desc := "(III)I" } : Jvm.MethodName) ({ cls := "ConstructiveDesk", name := "join", desc := "(III)I" } : Jvm.MethodName)) ∈ lw_all := lw_g (lw_at lw_m1 55 rfl) rfl
theorem q80 : (Jvm.Cond.code ({ cls := "ConstructiveDesk", name := "join", desc := "(III)I" } : Jvm.MethodName) prog_1_method_6_code (4 : Nat) (Option.some Jvm.ClassFile.FieldType.int)) ∈ lw_all := lw_g (lw_at lw_m1 56 rfl) rfl
theorem q81 : (Jvm.Cond.methodLink "ConstructiveDesk" (38 : Nat) ({ cls := "ConstructiveDesk", name := "missing", desc := "(I)Z" } : Jvm.MethodName)) ∈ lw_all := lw_g (lw_at lw_m1 57 rfl) rfl
theorem q82 : (Jvm.Cond.privateMethod ({ cls := "ConstructiveDesk", name := "missing", desc := "(I)Z" } : Jvm.MethodName)) ∈ lw_tbl := lw_at lw_m1 58 rfl
theorem q83 : (Jvm.Cond.instanceMethod ({ cls := "ConstructiveDesk", name := "missing", desc := "(I)Z" } : Jvm.MethodName)) ∈ lw_all := lw_g (lw_at lw_m1 59 rfl) rfl
theorem q84 : (Jvm.Cond.code ({ cls := "ConstructiveDesk", name := "missing", desc := "(I)Z" } : Jvm.MethodName) prog_1_method_3_code (2 : Nat) (Option.some Jvm.ClassFile.FieldType.boolean)) ∈ lw_all := lw_g (lw_at lw_m1 60 rfl) rfl
theorem q86 : (Jvm.Cond.instanceMethod ({ cls := "ConstructiveDesk", name := "drop", desc := "()I" } : Jvm.MethodName)) ∈ lw_all := lw_g (lw_at lw_m1 62 rfl) rfl
theorem q87 : (Jvm.Cond.selects "ConstructiveDesk" ({ cls := "ConstructiveDesk", name := "drop", desc := "()I" } : Jvm.MethodName) ({ cls := "ConstructiveDesk", name := "drop", desc := "()I" } : Jvm.MethodName)) ∈ lw_all := lw_g (lw_at lw_m1 63 rfl) rfl
theorem q88 : (Jvm.Cond.code ({ cls := "ConstructiveDesk", name := "drop", desc := "()I" } : Jvm.MethodName) prog_1_method_7_code (1 : Nat) (Option.some Jvm.ClassFile.FieldType.int)) ∈ lw_all := lw_g (lw_at lw_m1 64 rfl) rfl
theorem q90 : (Jvm.Cond.instanceMethod ({ cls := "ConstructiveDesk", name := "size", desc := "()I" } : Jvm.MethodName)) ∈ lw_all := lw_g (lw_at lw_m1 66 rfl) rfl
theorem q91 : (Jvm.Cond.selects "ConstructiveDesk" ({ cls := "ConstructiveDesk", name := "size", desc := "()I" } : Jvm.MethodName) ({ cls := "ConstructiveDesk", name := "size", desc := "()I" } : Jvm.MethodName)) ∈ lw_all := lw_g (lw_at lw_m1 67 rfl) rfl
theorem q92 : (Jvm.Cond.code ({ cls := "ConstructiveDesk", name := "size", desc := "()I" } : Jvm.MethodName) prog_1_method_8_code (1 : Nat) (Option.some Jvm.ClassFile.FieldType.int)) ∈ lw_all := lw_g (lw_at lw_m1 68 rfl) rfl
theorem q94 : (Jvm.Cond.instanceMethod ({ cls := "ConstructiveDesk", name := "follows", desc := "(II)I" } : Jvm.MethodName)) ∈ lw_all := lw_g (lw_at lw_m1 70 rfl) rfl
theorem q95 : (Jvm.Cond.selects "ConstructiveDesk" ({ cls := "ConstructiveDesk", name := "follows", desc := "(II)I" } : Jvm.MethodName) ({ cls := "ConstructiveDesk", name := "follows", desc := "(II)I" } : Jvm.MethodName)) ∈ lw_all := lw_g (lw_at lw_m1 71 rfl) rfl
theorem q96 : (Jvm.Cond.code ({ cls := "ConstructiveDesk", name := "follows", desc := "(II)I" } : Jvm.MethodName) prog_1_method_16_code (5 : Nat) (Option.some Jvm.ClassFile.FieldType.int)) ∈ lw_all := lw_g (lw_at lw_m1 72 rfl) rfl
theorem q97 : (Jvm.Cond.methodLink "ConstructiveDesk" (63 : Nat) ({ cls := "ConstructiveDesk", name := "find", desc := "()V" } : Jvm.MethodName)) ∈ lw_all := lw_g (lw_at lw_m1 73 rfl) rfl
theorem q98 : (Jvm.Cond.privateMethod ({ cls := "ConstructiveDesk", name := "find", desc := "()V" } : Jvm.MethodName)) ∈ lw_tbl := lw_at lw_m1 74 rfl
theorem q99 : (Jvm.Cond.instanceMethod ({ cls := "ConstructiveDesk", name := "find", desc := "()V" } : Jvm.MethodName)) ∈ lw_all := lw_g (lw_at lw_m1 75 rfl) rfl
theorem q100 : (Jvm.Cond.code ({ cls := "ConstructiveDesk", name := "find", desc := "()V" } : Jvm.MethodName) prog_1_method_14_code (3 : Nat) (Option.none : Option Jvm.ClassFile.FieldType)) ∈ lw_all := lw_g (lw_at lw_m1 76 rfl) rfl
theorem q101 : (Jvm.Cond.methodLink "ConstructiveDesk" (56 : Nat) ({ cls := "ConstructiveDesk", name := "every", desc := "()I" } : Jvm.MethodName)) ∈ lw_all := lw_g (lw_at lw_m1 77 rfl) rfl
theorem q102 : (Jvm.Cond.privateMethod ({ cls := "ConstructiveDesk", name := "every", desc := "()I" } : Jvm.MethodName)) ∈ lw_tbl := lw_at lw_m1 78 rfl
theorem q103 : (Jvm.Cond.instanceMethod ({ cls := "ConstructiveDesk", name := "every", desc := "()I" } : Jvm.MethodName)) ∈ lw_all := lw_g (lw_at lw_m1 79 rfl) rfl
theorem q104 : (Jvm.Cond.code ({ cls := "ConstructiveDesk", name := "every", desc := "()I" } : Jvm.MethodName) prog_1_method_10_code (1 : Nat) (Option.some Jvm.ClassFile.FieldType.int)) ∈ lw_all := lw_g (lw_at lw_m1 80 rfl) rfl
theorem q105 : (Jvm.Cond.methodLink "ConstructiveDesk" (60 : Nat) ({ cls := "ConstructiveDesk", name := "isWorld", desc := "(I)Z" } : Jvm.MethodName)) ∈ lw_all := lw_g (lw_at lw_m1 81 rfl) rfl
theorem q106 : (Jvm.Cond.privateMethod ({ cls := "ConstructiveDesk", name := "isWorld", desc := "(I)Z" } : Jvm.MethodName)) ∈ lw_tbl := lw_at lw_m1 82 rfl
theorem q107 : (Jvm.Cond.instanceMethod ({ cls := "ConstructiveDesk", name := "isWorld", desc := "(I)Z" } : Jvm.MethodName)) ∈ lw_all := lw_g (lw_at lw_m1 83 rfl) rfl
theorem q108 : (Jvm.Cond.code ({ cls := "ConstructiveDesk", name := "isWorld", desc := "(I)Z" } : Jvm.MethodName) prog_1_method_13_code (4 : Nat) (Option.some Jvm.ClassFile.FieldType.boolean)) ∈ lw_all := lw_g (lw_at lw_m1 84 rfl) rfl
theorem q109 : (Jvm.Cond.methodLink "ConstructiveDesk" (49 : Nat) ({ cls := "ConstructiveDesk", name := "keeps", desc := "(I)Z" } : Jvm.MethodName)) ∈ lw_all := lw_g (lw_at lw_m1 85 rfl) rfl
theorem q110 : (Jvm.Cond.privateMethod ({ cls := "ConstructiveDesk", name := "keeps", desc := "(I)Z" } : Jvm.MethodName)) ∈ lw_tbl := lw_at lw_m1 86 rfl
theorem q111 : (Jvm.Cond.instanceMethod ({ cls := "ConstructiveDesk", name := "keeps", desc := "(I)Z" } : Jvm.MethodName)) ∈ lw_all := lw_g (lw_at lw_m1 87 rfl) rfl
theorem q112 : (Jvm.Cond.code ({ cls := "ConstructiveDesk", name := "keeps", desc := "(I)Z" } : Jvm.MethodName) prog_1_method_11_code (7 : Nat) (Option.some Jvm.ClassFile.FieldType.boolean)) ∈ lw_all := lw_g (lw_at lw_m1 88 rfl) rfl
theorem q113 : (Jvm.Cond.methodLink "ConstructiveDesk" (42 : Nat) ({ cls := "ConstructiveDesk", name := "in", desc := "(II)Z" } : Jvm.MethodName)) ∈ lw_all := lw_g (lw_at lw_m1 89 rfl) rfl
theorem q114 : (Jvm.Cond.privateMethod ({ cls := "ConstructiveDesk", name := "in", desc := "(II)Z" } : Jvm.MethodName)) ∈ lw_tbl := lw_at lw_m1 90 rfl
theorem q115 : (Jvm.Cond.instanceMethod ({ cls := "ConstructiveDesk", name := "in", desc := "(II)Z" } : Jvm.MethodName)) ∈ lw_all := lw_g (lw_at lw_m1 91 rfl) rfl
theorem q116 : (Jvm.Cond.code ({ cls := "ConstructiveDesk", name := "in", desc := "(II)Z" } : Jvm.MethodName) prog_1_method_9_code (3 : Nat) (Option.some Jvm.ClassFile.FieldType.boolean)) ∈ lw_all := lw_g (lw_at lw_m1 92 rfl) rfl
theorem q117 : (Jvm.Cond.methodLink "ConstructiveDesk" (52 : Nat) ({ cls := "ConstructiveDesk", name := "parts", desc := "(III)Z" } : Jvm.MethodName)) ∈ lw_all := lw_g (lw_at lw_m1 93 rfl) rfl
theorem q118 : (Jvm.Cond.privateMethod ({ cls := "ConstructiveDesk", name := "parts", desc := "(III)Z" } : Jvm.MethodName)) ∈ lw_tbl := lw_at lw_m1 94 rfl
theorem q119 : (Jvm.Cond.instanceMethod ({ cls := "ConstructiveDesk", name := "parts", desc := "(III)Z" } : Jvm.MethodName)) ∈ lw_all := lw_g (lw_at lw_m1 95 rfl) rfl
theorem q120 : (Jvm.Cond.code ({ cls := "ConstructiveDesk", name := "parts", desc := "(III)Z" } : Jvm.MethodName) prog_1_method_12_code (6 : Nat) (Option.some Jvm.ClassFile.FieldType.boolean)) ∈ lw_all := lw_g (lw_at lw_m1 96 rfl) rfl
theorem q121 : (Jvm.Cond.methodLink "ConstructiveDesk" (66 : Nat) ({ cls := "ConstructiveDesk", name := "closure", desc := "(I)I" } : Jvm.MethodName)) ∈ lw_all := lw_g (lw_at lw_m1 97 rfl) rfl
theorem q122 : (Jvm.Cond.privateMethod ({ cls := "ConstructiveDesk", name := "closure", desc := "(I)I" } : Jvm.MethodName)) ∈ lw_tbl := lw_at lw_m1 98 rfl
theorem q123 : (Jvm.Cond.instanceMethod ({ cls := "ConstructiveDesk", name := "closure", desc := "(I)I" } : Jvm.MethodName)) ∈ lw_all := lw_g (lw_at lw_m1 99 rfl) rfl
theorem q124 : (Jvm.Cond.code ({ cls := "ConstructiveDesk", name := "closure", desc := "(I)I" } : Jvm.MethodName) prog_1_method_15_code (4 : Nat) (Option.some Jvm.ClassFile.FieldType.int)) ∈ lw_all := lw_g (lw_at lw_m1 100 rfl) rfl
theorem q126 : (Jvm.Cond.instanceMethod ({ cls := "ConstructiveDesk", name := "all", desc := "(I)I" } : Jvm.MethodName)) ∈ lw_all := lw_g (lw_at lw_m1 102 rfl) rfl
theorem q127 : (Jvm.Cond.selects "ConstructiveDesk" ({ cls := "ConstructiveDesk", name := "all", desc := "(I)I" } : Jvm.MethodName) ({ cls := "ConstructiveDesk", name := "all", desc := "(I)I" } : Jvm.MethodName)) ∈ lw_all := lw_g (lw_at lw_m1 103 rfl) rfl
theorem q128 : (Jvm.Cond.code ({ cls := "ConstructiveDesk", name := "all", desc := "(I)I" } : Jvm.MethodName) prog_1_method_17_code (3 : Nat) (Option.some Jvm.ClassFile.FieldType.int)) ∈ lw_all := lw_g (lw_at lw_m1 104 rfl) rfl
theorem q130 : (Jvm.Cond.instanceMethod ({ cls := "ConstructiveDesk", name := "classically", desc := "(II)I" } : Jvm.MethodName)) ∈ lw_all := lw_g (lw_at lw_m1 106 rfl) rfl
theorem q131 : (Jvm.Cond.selects "ConstructiveDesk" ({ cls := "ConstructiveDesk", name := "classically", desc := "(II)I" } : Jvm.MethodName) ({ cls := "ConstructiveDesk", name := "classically", desc := "(II)I" } : Jvm.MethodName)) ∈ lw_all := lw_g (lw_at lw_m1 107 rfl) rfl
theorem q132 : (Jvm.Cond.code ({ cls := "ConstructiveDesk", name := "classically", desc := "(II)I" } : Jvm.MethodName) prog_1_method_19_code (7 : Nat) (Option.some Jvm.ClassFile.FieldType.int)) ∈ lw_all := lw_g (lw_at lw_m1 108 rfl) rfl
theorem q133 : (Jvm.Cond.methodLink "ConstructiveDesk" (70 : Nat) ({ cls := "ConstructiveDesk", name := "trueFor", desc := "(I)I" } : Jvm.MethodName)) ∈ lw_all := lw_g (lw_at lw_m1 109 rfl) rfl
theorem q134 : (Jvm.Cond.privateMethod ({ cls := "ConstructiveDesk", name := "trueFor", desc := "(I)I" } : Jvm.MethodName)) ∈ lw_tbl := lw_at lw_m1 110 rfl
theorem q135 : (Jvm.Cond.instanceMethod ({ cls := "ConstructiveDesk", name := "trueFor", desc := "(I)I" } : Jvm.MethodName)) ∈ lw_all := lw_g (lw_at lw_m1 111 rfl) rfl
theorem q136 : (Jvm.Cond.code ({ cls := "ConstructiveDesk", name := "trueFor", desc := "(I)I" } : Jvm.MethodName) prog_1_method_18_code (7 : Nat) (Option.some Jvm.ClassFile.FieldType.int)) ∈ lw_all := lw_g (lw_at lw_m1 112 rfl) rfl
theorem q138 : (Jvm.Cond.instanceMethod ({ cls := "ConstructiveDesk", name := "alike", desc := "(II)I" } : Jvm.MethodName)) ∈ lw_all := lw_g (lw_at lw_m1 114 rfl) rfl
theorem q139 : (Jvm.Cond.selects "ConstructiveDesk" ({ cls := "ConstructiveDesk", name := "alike", desc := "(II)I" } : Jvm.MethodName) ({ cls := "ConstructiveDesk", name := "alike", desc := "(II)I" } : Jvm.MethodName)) ∈ lw_all := lw_g (lw_at lw_m1 115 rfl) rfl
theorem q140 : (Jvm.Cond.code ({ cls := "ConstructiveDesk", name := "alike", desc := "(II)I" } : Jvm.MethodName) prog_1_method_20_code (5 : Nat) (Option.some Jvm.ClassFile.FieldType.int)) ∈ lw_all := lw_g (lw_at lw_m1 116 rfl) rfl
theorem q142 : (Jvm.Cond.instanceMethod ({ cls := "ConstructiveDesk", name := "enough", desc := "(II)I" } : Jvm.MethodName)) ∈ lw_all := lw_g (lw_at lw_m1 118 rfl) rfl
theorem q143 : (Jvm.Cond.selects "ConstructiveDesk" ({ cls := "ConstructiveDesk", name := "enough", desc := "(II)I" } : Jvm.MethodName) ({ cls := "ConstructiveDesk", name := "enough", desc := "(II)I" } : Jvm.MethodName)) ∈ lw_all := lw_g (lw_at lw_m1 119 rfl) rfl
theorem q144 : (Jvm.Cond.code ({ cls := "ConstructiveDesk", name := "enough", desc := "(II)I" } : Jvm.MethodName) prog_1_method_24_code (9 : Nat) (Option.some Jvm.ClassFile.FieldType.int)) ∈ lw_all := lw_g (lw_at lw_m1 120 rfl) rfl
theorem q145 : (Jvm.Cond.methodLink "ConstructiveDesk" (76 : Nat) ({ cls := "ConstructiveDesk", name := "gather", desc := "(II)Z" } : Jvm.MethodName)) ∈ lw_all := lw_g (lw_at lw_m1 121 rfl) rfl
theorem q146 : (Jvm.Cond.privateMethod ({ cls := "ConstructiveDesk", name := "gather", desc := "(II)Z" } : Jvm.MethodName)) ∈ lw_tbl := lw_at lw_m1 122 rfl
theorem q147 : (Jvm.Cond.instanceMethod ({ cls := "ConstructiveDesk", name := "gather", desc := "(II)Z" } : Jvm.MethodName)) ∈ lw_all := lw_g (lw_at lw_m1 123 rfl) rfl
theorem q148 : (Jvm.Cond.code ({ cls := "ConstructiveDesk", name := "gather", desc := "(II)Z" } : Jvm.MethodName) prog_1_method_21_code (5 : Nat) (Option.some Jvm.ClassFile.FieldType.boolean)) ∈ lw_all := lw_g (lw_at lw_m1 124 rfl) rfl
theorem q149 : (Jvm.Cond.methodLink "ConstructiveDesk" (79 : Nat) ({ cls := "ConstructiveDesk", name := "sizeOf", desc := "(I)I" } : Jvm.MethodName)) ∈ lw_all := lw_g (lw_at lw_m1 125 rfl) rfl
theorem q150 : (Jvm.Cond.privateMethod ({ cls := "ConstructiveDesk", name := "sizeOf", desc := "(I)I" } : Jvm.MethodName)) ∈ lw_tbl := lw_at lw_m1 126 rfl
theorem q151 : (Jvm.Cond.instanceMethod ({ cls := "ConstructiveDesk", name := "sizeOf", desc := "(I)I" } : Jvm.MethodName)) ∈ lw_all := lw_g (lw_at lw_m1 127 rfl) rfl
theorem q152 : (Jvm.Cond.code ({ cls := "ConstructiveDesk", name := "sizeOf", desc := "(I)I" } : Jvm.MethodName) prog_1_method_23_code (4 : Nat) (Option.some Jvm.ClassFile.FieldType.int)) ∈ lw_all := lw_g (lw_at lw_m1 128 rfl) rfl
theorem q153 : (Jvm.Cond.methodLink "ConstructiveDesk" (82 : Nat) ({ cls := "ConstructiveDesk", name := "meetsAll", desc := "(I)Z" } : Jvm.MethodName)) ∈ lw_all := lw_g (lw_at lw_m1 129 rfl) rfl
theorem q154 : (Jvm.Cond.privateMethod ({ cls := "ConstructiveDesk", name := "meetsAll", desc := "(I)Z" } : Jvm.MethodName)) ∈ lw_tbl := lw_at lw_m1 130 rfl
theorem q155 : (Jvm.Cond.instanceMethod ({ cls := "ConstructiveDesk", name := "meetsAll", desc := "(I)Z" } : Jvm.MethodName)) ∈ lw_all := lw_g (lw_at lw_m1 131 rfl) rfl
theorem q156 : (Jvm.Cond.code ({ cls := "ConstructiveDesk", name := "meetsAll", desc := "(I)Z" } : Jvm.MethodName) prog_1_method_22_code (4 : Nat) (Option.some Jvm.ClassFile.FieldType.boolean)) ∈ lw_all := lw_g (lw_at lw_m1 132 rfl) rfl
theorem q158 : (Jvm.Cond.instanceMethod ({ cls := "ConstructiveDesk", name := "saturated", desc := "(I)I" } : Jvm.MethodName)) ∈ lw_all := lw_g (lw_at lw_m1 134 rfl) rfl
theorem q159 : (Jvm.Cond.selects "ConstructiveDesk" ({ cls := "ConstructiveDesk", name := "saturated", desc := "(I)I" } : Jvm.MethodName) ({ cls := "ConstructiveDesk", name := "saturated", desc := "(I)I" } : Jvm.MethodName)) ∈ lw_all := lw_g (lw_at lw_m1 135 rfl) rfl
theorem q160 : (Jvm.Cond.code ({ cls := "ConstructiveDesk", name := "saturated", desc := "(I)I" } : Jvm.MethodName) prog_1_method_25_code (5 : Nat) (Option.some Jvm.ClassFile.FieldType.int)) ∈ lw_all := lw_g (lw_at lw_m1 136 rfl) rfl
theorem q162 : (Jvm.Cond.instanceMethod ({ cls := "ConstructiveDesk", name := "worlds", desc := "()I" } : Jvm.MethodName)) ∈ lw_all := lw_g (lw_at lw_m1 138 rfl) rfl
theorem q163 : (Jvm.Cond.selects "ConstructiveDesk" ({ cls := "ConstructiveDesk", name := "worlds", desc := "()I" } : Jvm.MethodName) ({ cls := "ConstructiveDesk", name := "worlds", desc := "()I" } : Jvm.MethodName)) ∈ lw_all := lw_g (lw_at lw_m1 139 rfl) rfl
theorem q164 : (Jvm.Cond.code ({ cls := "ConstructiveDesk", name := "worlds", desc := "()I" } : Jvm.MethodName) prog_1_method_26_code (1 : Nat) (Option.some Jvm.ClassFile.FieldType.int)) ∈ lw_all := lw_g (lw_at lw_m1 140 rfl) rfl
theorem q166 : (Jvm.Cond.instanceMethod ({ cls := "ConstructiveDesk", name := "against", desc := "(II)I" } : Jvm.MethodName)) ∈ lw_all := lw_g (lw_at lw_m1 142 rfl) rfl
theorem q167 : (Jvm.Cond.selects "ConstructiveDesk" ({ cls := "ConstructiveDesk", name := "against", desc := "(II)I" } : Jvm.MethodName) ({ cls := "ConstructiveDesk", name := "against", desc := "(II)I" } : Jvm.MethodName)) ∈ lw_all := lw_g (lw_at lw_m1 143 rfl) rfl
theorem q168 : (Jvm.Cond.code ({ cls := "ConstructiveDesk", name := "against", desc := "(II)I" } : Jvm.MethodName) prog_1_method_27_code (6 : Nat) (Option.some Jvm.ClassFile.FieldType.int)) ∈ lw_all := lw_g (lw_at lw_m1 144 rfl) rfl
theorem q170 : (Jvm.Cond.instanceMethod ({ cls := "ConstructiveDesk", name := "closedSets", desc := "()I" } : Jvm.MethodName)) ∈ lw_all := lw_g (lw_at lw_m1 146 rfl) rfl
theorem q171 : (Jvm.Cond.selects "ConstructiveDesk" ({ cls := "ConstructiveDesk", name := "closedSets", desc := "()I" } : Jvm.MethodName) ({ cls := "ConstructiveDesk", name := "closedSets", desc := "()I" } : Jvm.MethodName)) ∈ lw_all := lw_g (lw_at lw_m1 147 rfl) rfl
theorem q172 : (Jvm.Cond.code ({ cls := "ConstructiveDesk", name := "closedSets", desc := "()I" } : Jvm.MethodName) prog_1_method_28_code (4 : Nat) (Option.some Jvm.ClassFile.FieldType.int)) ∈ lw_all := lw_g (lw_at lw_m1 148 rfl) rfl
theorem in_X0 : ∀ w ∈ wsX00, w ∈ lw_all := lw_in wsX00 [44, 46, 48, 50, 52, 54, 56, 58, 60] (by decide +kernel) (by decide +kernel)
theorem q24 : (Jvm.Cond.initialized "ConstructiveDeskLaw") ∈ lw_all := lw_g (lw_at lw_m1 0 rfl) rfl
theorem q27 : (Jvm.Cond.classLink "ConstructiveDeskLaw" (7 : Nat) "ConstructiveDesk") ∈ lw_all := lw_g (lw_at lw_m1 3 rfl) rfl
theorem q29 : (Jvm.Cond.methodLink "ConstructiveDeskLaw" (9 : Nat) ({ cls := "ConstructiveDesk", name := "<init>", desc := "()V" } : Jvm.MethodName)) ∈ lw_all := lw_g (lw_at lw_m1 5 rfl) rfl
theorem q65 : (Jvm.Cond.methodLink "ConstructiveDeskLaw" (13 : Nat) ({ cls := "ConstructiveDesk", name := "atom", desc := "(I)I" } : Jvm.MethodName)) ∈ lw_all := lw_g (lw_at lw_m1 41 rfl) rfl
theorem q73 : (Jvm.Cond.methodLink "ConstructiveDeskLaw" (18 : Nat) ({ cls := "ConstructiveDesk", name := "falsum", desc := "()I" } : Jvm.MethodName)) ∈ lw_all := lw_g (lw_at lw_m1 49 rfl) rfl
theorem q77 : (Jvm.Cond.methodLink "ConstructiveDeskLaw" (23 : Nat) ({ cls := "ConstructiveDesk", name := "join", desc := "(III)I" } : Jvm.MethodName)) ∈ lw_all := lw_g (lw_at lw_m1 53 rfl) rfl
theorem q85 : (Jvm.Cond.methodLink "ConstructiveDeskLaw" (28 : Nat) ({ cls := "ConstructiveDesk", name := "drop", desc := "()I" } : Jvm.MethodName)) ∈ lw_all := lw_g (lw_at lw_m1 61 rfl) rfl
theorem q89 : (Jvm.Cond.methodLink "ConstructiveDeskLaw" (32 : Nat) ({ cls := "ConstructiveDesk", name := "size", desc := "()I" } : Jvm.MethodName)) ∈ lw_all := lw_g (lw_at lw_m1 65 rfl) rfl
theorem q93 : (Jvm.Cond.methodLink "ConstructiveDeskLaw" (36 : Nat) ({ cls := "ConstructiveDesk", name := "follows", desc := "(II)I" } : Jvm.MethodName)) ∈ lw_all := lw_g (lw_at lw_m1 69 rfl) rfl
theorem q125 : (Jvm.Cond.methodLink "ConstructiveDeskLaw" (41 : Nat) ({ cls := "ConstructiveDesk", name := "all", desc := "(I)I" } : Jvm.MethodName)) ∈ lw_all := lw_g (lw_at lw_m1 101 rfl) rfl
theorem q129 : (Jvm.Cond.methodLink "ConstructiveDeskLaw" (45 : Nat) ({ cls := "ConstructiveDesk", name := "classically", desc := "(II)I" } : Jvm.MethodName)) ∈ lw_all := lw_g (lw_at lw_m1 105 rfl) rfl
theorem q137 : (Jvm.Cond.methodLink "ConstructiveDeskLaw" (49 : Nat) ({ cls := "ConstructiveDesk", name := "alike", desc := "(II)I" } : Jvm.MethodName)) ∈ lw_all := lw_g (lw_at lw_m1 113 rfl) rfl
theorem q141 : (Jvm.Cond.methodLink "ConstructiveDeskLaw" (53 : Nat) ({ cls := "ConstructiveDesk", name := "enough", desc := "(II)I" } : Jvm.MethodName)) ∈ lw_all := lw_g (lw_at lw_m1 117 rfl) rfl
theorem q157 : (Jvm.Cond.methodLink "ConstructiveDeskLaw" (57 : Nat) ({ cls := "ConstructiveDesk", name := "saturated", desc := "(I)I" } : Jvm.MethodName)) ∈ lw_all := lw_g (lw_at lw_m1 133 rfl) rfl
theorem q161 : (Jvm.Cond.methodLink "ConstructiveDeskLaw" (61 : Nat) ({ cls := "ConstructiveDesk", name := "worlds", desc := "()I" } : Jvm.MethodName)) ∈ lw_all := lw_g (lw_at lw_m1 137 rfl) rfl
theorem q165 : (Jvm.Cond.methodLink "ConstructiveDeskLaw" (65 : Nat) ({ cls := "ConstructiveDesk", name := "against", desc := "(II)I" } : Jvm.MethodName)) ∈ lw_all := lw_g (lw_at lw_m1 141 rfl) rfl
theorem q169 : (Jvm.Cond.methodLink "ConstructiveDeskLaw" (69 : Nat) ({ cls := "ConstructiveDesk", name := "closedSets", desc := "()I" } : Jvm.MethodName)) ∈ lw_all := lw_g (lw_at lw_m1 145 rfl) rfl
theorem q173 : (Jvm.Cond.classLink "ConstructiveDeskLaw" (10 : Nat) "ConstructiveDeskModel") ∈ lw_all := lw_g (lw_at lw_m1 149 rfl) rfl
theorem q175 : (Jvm.Cond.methodLink "ConstructiveDeskLaw" (12 : Nat) ({ cls := "ConstructiveDeskModel", name := "<init>", desc := "()V" } : Jvm.MethodName)) ∈ lw_all := lw_g (lw_at lw_m1 151 rfl) rfl
theorem q203 : (Jvm.Cond.methodLink "ConstructiveDeskLaw" (17 : Nat) ({ cls := "ConstructiveDeskModel", name := "atom", desc := "(I)I" } : Jvm.MethodName)) ∈ lw_all := lw_g (lw_at lw_m1 179 rfl) rfl
theorem q215 : (Jvm.Cond.methodLink "ConstructiveDeskLaw" (22 : Nat) ({ cls := "ConstructiveDeskModel", name := "falsum", desc := "()I" } : Jvm.MethodName)) ∈ lw_all := lw_g (lw_at lw_m1 191 rfl) rfl
theorem q219 : (Jvm.Cond.methodLink "ConstructiveDeskLaw" (27 : Nat) ({ cls := "ConstructiveDeskModel", name := "join", desc := "(III)I" } : Jvm.MethodName)) ∈ lw_all := lw_g (lw_at lw_m1 195 rfl) rfl
theorem q227 : (Jvm.Cond.methodLink "ConstructiveDeskLaw" (31 : Nat) ({ cls := "ConstructiveDeskModel", name := "drop", desc := "()I" } : Jvm.MethodName)) ∈ lw_all := lw_g (lw_at lw_m1 203 rfl) rfl
theorem q231 : (Jvm.Cond.methodLink "ConstructiveDeskLaw" (35 : Nat) ({ cls := "ConstructiveDeskModel", name := "size", desc := "()I" } : Jvm.MethodName)) ∈ lw_all := lw_g (lw_at lw_m1 207 rfl) rfl
theorem q235 : (Jvm.Cond.methodLink "ConstructiveDeskLaw" (40 : Nat) ({ cls := "ConstructiveDeskModel", name := "follows", desc := "(II)I" } : Jvm.MethodName)) ∈ lw_all := lw_g (lw_at lw_m1 211 rfl) rfl
theorem q259 : (Jvm.Cond.methodLink "ConstructiveDeskLaw" (44 : Nat) ({ cls := "ConstructiveDeskModel", name := "all", desc := "(I)I" } : Jvm.MethodName)) ∈ lw_all := lw_g (lw_at lw_m1 235 rfl) rfl
theorem q263 : (Jvm.Cond.methodLink "ConstructiveDeskLaw" (48 : Nat) ({ cls := "ConstructiveDeskModel", name := "classically", desc := "(II)I" } : Jvm.MethodName)) ∈ lw_all := lw_g (lw_at lw_m1 239 rfl) rfl
theorem q271 : (Jvm.Cond.methodLink "ConstructiveDeskLaw" (52 : Nat) ({ cls := "ConstructiveDeskModel", name := "alike", desc := "(II)I" } : Jvm.MethodName)) ∈ lw_all := lw_g (lw_at lw_m2 7 rfl) rfl
theorem q275 : (Jvm.Cond.methodLink "ConstructiveDeskLaw" (56 : Nat) ({ cls := "ConstructiveDeskModel", name := "enough", desc := "(II)I" } : Jvm.MethodName)) ∈ lw_all := lw_g (lw_at lw_m2 11 rfl) rfl
theorem q283 : (Jvm.Cond.methodLink "ConstructiveDeskLaw" (60 : Nat) ({ cls := "ConstructiveDeskModel", name := "saturated", desc := "(I)I" } : Jvm.MethodName)) ∈ lw_all := lw_g (lw_at lw_m2 19 rfl) rfl
theorem q291 : (Jvm.Cond.methodLink "ConstructiveDeskLaw" (64 : Nat) ({ cls := "ConstructiveDeskModel", name := "worlds", desc := "()I" } : Jvm.MethodName)) ∈ lw_all := lw_g (lw_at lw_m2 27 rfl) rfl
theorem q295 : (Jvm.Cond.methodLink "ConstructiveDeskLaw" (68 : Nat) ({ cls := "ConstructiveDeskModel", name := "against", desc := "(II)I" } : Jvm.MethodName)) ∈ lw_all := lw_g (lw_at lw_m2 31 rfl) rfl
theorem q299 : (Jvm.Cond.methodLink "ConstructiveDeskLaw" (72 : Nat) ({ cls := "ConstructiveDeskModel", name := "closedSets", desc := "()I" } : Jvm.MethodName)) ∈ lw_all := lw_g (lw_at lw_m2 35 rfl) rfl
theorem q63 : (Jvm.Cond.arrayClass Jvm.ClassFile.FieldType.byte) ∈ lw_all := lw_g (lw_at lw_m1 39 rfl) rfl
theorem q64 : (Jvm.Cond.arrayClass Jvm.ClassFile.FieldType.short) ∈ lw_all := lw_g (lw_at lw_m1 40 rfl) rfl
theorem q201 : (Jvm.Cond.arrayClass Jvm.ClassFile.FieldType.int) ∈ lw_all := lw_g (lw_at lw_m1 177 rfl) rfl
theorem q202 : (Jvm.Cond.arrayClass Jvm.ClassFile.FieldType.boolean) ∈ lw_all := lw_g (lw_at lw_m1 178 rfl) rfl
end
section
set_option maxRecDepth 100000
/-! ConstructiveDeskModel -/
def RX1 : String := "ConstructiveDeskModel"
def TX1 : u_T := fun k => match k with
  | 0 => ("ConstructiveDeskModel", "size", "I", false)
  | 1 => ("ConstructiveDeskModel", "sorts", "[I", false)
  | 2 => ("ConstructiveDeskModel", "lefts", "[I", false)
  | 3 => ("ConstructiveDeskModel", "rights", "[I", false)
  | 4 => ("ConstructiveDeskModel", "known", "Z", false)
  | 5 => ("ConstructiveDeskModel", "follow", "[I", false)
  | _ => ("ConstructiveDeskModel", "truth", "[Z", false)
def tyX1 : Nat → FieldType := fun k => match k with
  | 0 => .int
  | 1 => .array .int
  | 2 => .array .int
  | 3 => .array .int
  | 4 => .boolean
  | 5 => .array .int
  | _ => .array .boolean
abbrev wsX10 : List Cond := u_ws RX1 TX1 7
theorem nmX1 : ∀ a, a < 7 → ∀ b, b < 7 → a ≠ b → (TX1 a).2.1 ≠ (TX1 b).2.1 := by decide +kernel
theorem tyX1_ok : ∀ k, k < 7 → parseFieldDescriptor (TX1 k).2.2.1 = some (tyX1 k) := by decide +kernel
abbrev cX1_init : ByteArray := prog_3_method_1_code
def yX1_init : MethodName := ⟨RX1, "<init>", "()V"⟩
abbrev cX1_atom : ByteArray := prog_3_method_4_code
def yX1_atom : MethodName := ⟨RX1, "atom", "(I)I"⟩
abbrev cX1_put : ByteArray := prog_3_method_3_code
def yX1_put : MethodName := ⟨RX1, "put", "(III)I"⟩
abbrev cX1_find : ByteArray := prog_3_method_2_code
def yX1_find : MethodName := ⟨RX1, "find", "(III)I"⟩
abbrev cX1_falsum : ByteArray := prog_3_method_5_code
def yX1_falsum : MethodName := ⟨RX1, "falsum", "()I"⟩
abbrev cX1_join : ByteArray := prog_3_method_7_code
def yX1_join : MethodName := ⟨RX1, "join", "(III)I"⟩
abbrev cX1_is : ByteArray := prog_3_method_6_code
def yX1_is : MethodName := ⟨RX1, "is", "(I)Z"⟩
abbrev cX1_drop : ByteArray := prog_3_method_8_code
def yX1_drop : MethodName := ⟨RX1, "drop", "()I"⟩
abbrev cX1_size : ByteArray := prog_3_method_9_code
def yX1_size : MethodName := ⟨RX1, "size", "()I"⟩
abbrev cX1_follows : ByteArray := prog_3_method_15_code
def yX1_follows : MethodName := ⟨RX1, "follows", "(II)I"⟩
abbrev cX1_taken : ByteArray := prog_3_method_14_code
def yX1_taken : MethodName := ⟨RX1, "taken", "(I)I"⟩
abbrev cX1_work : ByteArray := prog_3_method_13_code
def yX1_work : MethodName := ⟨RX1, "work", "()V"⟩
abbrev cX1_more : ByteArray := prog_3_method_12_code
def yX1_more : MethodName := ⟨RX1, "more", "(III)I"⟩
abbrev cX1_has : ByteArray := prog_3_method_10_code
def yX1_has : MethodName := ⟨RX1, "has", "(II)Z"⟩
abbrev cX1_with : ByteArray := prog_3_method_11_code
def yX1_with : MethodName := ⟨RX1, "with", "(III)I"⟩
abbrev cX1_all : ByteArray := prog_3_method_16_code
def yX1_all : MethodName := ⟨RX1, "all", "(I)I"⟩
abbrev cX1_classically : ByteArray := prog_3_method_18_code
def yX1_classically : MethodName := ⟨RX1, "classically", "(II)I"⟩
abbrev cX1_judge : ByteArray := prog_3_method_17_code
def yX1_judge : MethodName := ⟨RX1, "judge", "(I)V"⟩
abbrev cX1_alike : ByteArray := prog_3_method_19_code
def yX1_alike : MethodName := ⟨RX1, "alike", "(II)I"⟩
abbrev cX1_enough : ByteArray := prog_3_method_21_code
def yX1_enough : MethodName := ⟨RX1, "enough", "(II)I"⟩
abbrev cX1_count : ByteArray := prog_3_method_20_code
def yX1_count : MethodName := ⟨RX1, "count", "(I)I"⟩
abbrev cX1_saturated : ByteArray := prog_3_method_23_code
def yX1_saturated : MethodName := ⟨RX1, "saturated", "(I)I"⟩
abbrev cX1_isWorld : ByteArray := prog_3_method_22_code
def yX1_isWorld : MethodName := ⟨RX1, "isWorld", "(I)Z"⟩
abbrev cX1_worlds : ByteArray := prog_3_method_24_code
def yX1_worlds : MethodName := ⟨RX1, "worlds", "()I"⟩
abbrev cX1_against : ByteArray := prog_3_method_25_code
def yX1_against : MethodName := ⟨RX1, "against", "(II)I"⟩
abbrev cX1_closedSets : ByteArray := prog_3_method_26_code
def yX1_closedSets : MethodName := ⟨RX1, "closedSets", "()I"⟩
theorem q26 : (Jvm.Cond.initialized "ConstructiveDeskModel") ∈ lw_all := lw_g (lw_at lw_m1 2 rfl) rfl
theorem q174 : (Jvm.Cond.instantiable "ConstructiveDeskModel" (7 : Nat)) ∈ lw_all := lw_g (lw_at lw_m1 150 rfl) rfl
theorem q176 : (Jvm.Cond.instanceMethod ({ cls := "ConstructiveDeskModel", name := "<init>", desc := "()V" } : Jvm.MethodName)) ∈ lw_all := lw_g (lw_at lw_m1 152 rfl) rfl
theorem q177 : (Jvm.Cond.code ({ cls := "ConstructiveDeskModel", name := "<init>", desc := "()V" } : Jvm.MethodName) prog_3_method_1_code (1 : Nat) (Option.none : Option Jvm.ClassFile.FieldType)) ∈ lw_all := lw_g (lw_at lw_m1 153 rfl) rfl
theorem q178 : (Jvm.Cond.methodLink "ConstructiveDeskModel" (1 : Nat) ({ cls := "java/lang/Object", name := "<init>", desc := "()V" } : Jvm.MethodName)) ∈ lw_all := lw_g (lw_at lw_m1 154 rfl) rfl
theorem q179 : (Jvm.Cond.fieldLink "ConstructiveDeskModel" (26 : Nat) "ConstructiveDeskModel" "size" "I") ∈ lw_all := lw_g (lw_at lw_m1 155 rfl) rfl
theorem q180 : (Jvm.Cond.fieldLink "ConstructiveDeskModel" (7 : Nat) "ConstructiveDeskModel" "sorts" "[I") ∈ lw_all := lw_g (lw_at lw_m1 156 rfl) rfl
theorem q181 : (Jvm.Cond.fieldLink "ConstructiveDeskModel" (13 : Nat) "ConstructiveDeskModel" "lefts" "[I") ∈ lw_all := lw_g (lw_at lw_m1 157 rfl) rfl
theorem q182 : (Jvm.Cond.fieldLink "ConstructiveDeskModel" (16 : Nat) "ConstructiveDeskModel" "rights" "[I") ∈ lw_all := lw_g (lw_at lw_m1 158 rfl) rfl
theorem q183 : (Jvm.Cond.fieldLink "ConstructiveDeskModel" (34 : Nat) "ConstructiveDeskModel" "known" "Z") ∈ lw_all := lw_g (lw_at lw_m1 159 rfl) rfl
theorem q184 : (Jvm.Cond.fieldLink "ConstructiveDeskModel" (19 : Nat) "ConstructiveDeskModel" "follow" "[I") ∈ lw_all := lw_g (lw_at lw_m1 160 rfl) rfl
theorem q185 : (Jvm.Cond.fieldLink "ConstructiveDeskModel" (22 : Nat) "ConstructiveDeskModel" "truth" "[Z") ∈ lw_all := lw_g (lw_at lw_m1 161 rfl) rfl
theorem q186 : (Jvm.Cond.lays "ConstructiveDeskModel" "ConstructiveDeskModel" "size" "I") ∈ lw_all := lw_g (lw_at lw_m1 162 rfl) rfl
theorem q187 : (Jvm.Cond.soleField "ConstructiveDeskModel" "size") ∈ lw_all := lw_g (lw_at lw_m1 163 rfl) rfl
theorem q188 : (Jvm.Cond.lays "ConstructiveDeskModel" "ConstructiveDeskModel" "sorts" "[I") ∈ lw_all := lw_g (lw_at lw_m1 164 rfl) rfl
theorem q189 : (Jvm.Cond.soleField "ConstructiveDeskModel" "sorts") ∈ lw_all := lw_g (lw_at lw_m1 165 rfl) rfl
theorem q190 : (Jvm.Cond.lays "ConstructiveDeskModel" "ConstructiveDeskModel" "lefts" "[I") ∈ lw_all := lw_g (lw_at lw_m1 166 rfl) rfl
theorem q191 : (Jvm.Cond.soleField "ConstructiveDeskModel" "lefts") ∈ lw_all := lw_g (lw_at lw_m1 167 rfl) rfl
theorem q192 : (Jvm.Cond.lays "ConstructiveDeskModel" "ConstructiveDeskModel" "rights" "[I") ∈ lw_all := lw_g (lw_at lw_m1 168 rfl) rfl
theorem q193 : (Jvm.Cond.soleField "ConstructiveDeskModel" "rights") ∈ lw_all := lw_g (lw_at lw_m1 169 rfl) rfl
theorem q194 : (Jvm.Cond.lays "ConstructiveDeskModel" "ConstructiveDeskModel" "known" "Z") ∈ lw_all := lw_g (lw_at lw_m1 170 rfl) rfl
theorem q195 : (Jvm.Cond.soleField "ConstructiveDeskModel" "known") ∈ lw_all := lw_g (lw_at lw_m1 171 rfl) rfl
theorem q196 : (Jvm.Cond.lays "ConstructiveDeskModel" "ConstructiveDeskModel" "follow" "[I") ∈ lw_all := lw_g (lw_at lw_m1 172 rfl) rfl
theorem q197 : (Jvm.Cond.soleField "ConstructiveDeskModel" "follow") ∈ lw_all := lw_g (lw_at lw_m1 173 rfl) rfl
theorem q198 : (Jvm.Cond.lays "ConstructiveDeskModel" "ConstructiveDeskModel" "truth" "[Z") ∈ lw_all := lw_g (lw_at lw_m1 174 rfl) rfl
theorem q199 : (Jvm.Cond.soleField "ConstructiveDeskModel" "truth") ∈ lw_all := lw_g (lw_at lw_m1 175 rfl) rfl
theorem q200 : (Jvm.Cond.superclass "ConstructiveDeskModel" "java/lang/Object") ∈ lw_all := lw_g (lw_at lw_m1 176 rfl) rfl
theorem q204 : (Jvm.Cond.instanceMethod ({ cls := "ConstructiveDeskModel", name := "atom", desc := "(I)I" } : Jvm.MethodName)) ∈ lw_all := lw_g (lw_at lw_m1 180 rfl) rfl
theorem q205 : (Jvm.Cond.selects "ConstructiveDeskModel" ({ cls := "ConstructiveDeskModel", name := "atom", desc := "(I)I" } : Jvm.MethodName) ({ cls := "ConstructiveDeskModel", name := "atom", desc := "(I)I" } : Jvm.MethodName)) ∈ lw_all := lw_g (lw_at lw_m1 181 rfl) rfl
theorem q206 : (Jvm.Cond.code ({ cls := "ConstructiveDeskModel", name := "atom", desc := "(I)I" } : Jvm.MethodName) prog_3_method_4_code (2 : Nat) (Option.some Jvm.ClassFile.FieldType.int)) ∈ lw_all := lw_g (lw_at lw_m1 182 rfl) rfl
theorem q207 : (Jvm.Cond.methodLink "ConstructiveDeskModel" (38 : Nat) ({ cls := "ConstructiveDeskModel", name := "put", desc := "(III)I" } : Jvm.MethodName)) ∈ lw_all := lw_g (lw_at lw_m1 183 rfl) rfl
theorem q208 : (Jvm.Cond.privateMethod ({ cls := "ConstructiveDeskModel", name := "put", desc := "(III)I" } : Jvm.MethodName)) ∈ lw_tbl := lw_at lw_m1 184 rfl
theorem q209 : (Jvm.Cond.instanceMethod ({ cls := "ConstructiveDeskModel", name := "put", desc := "(III)I" } : Jvm.MethodName)) ∈ lw_all := lw_g (lw_at lw_m1 185 rfl) rfl
theorem q210 : (Jvm.Cond.code ({ cls := "ConstructiveDeskModel", name := "put", desc := "(III)I" } : Jvm.MethodName) prog_3_method_3_code (5 : Nat) (Option.some Jvm.ClassFile.FieldType.int)) ∈ lw_all := lw_g (lw_at lw_m1 186 rfl) rfl
theorem q211 : (Jvm.Cond.methodLink "ConstructiveDeskModel" (30 : Nat) ({ cls := "ConstructiveDeskModel", name := "find", desc := "(III)I" } : Jvm.MethodName)) ∈ lw_all := lw_g (lw_at lw_m1 187 rfl) rfl
theorem q212 : (Jvm.Cond.privateMethod ({ cls := "ConstructiveDeskModel", name := "find", desc := "(III)I" } : Jvm.MethodName)) ∈ lw_tbl := lw_at lw_m1 188 rfl
theorem q213 : (Jvm.Cond.instanceMethod ({ cls := "ConstructiveDeskModel", name := "find", desc := "(III)I" } : Jvm.MethodName)) ∈ lw_all := lw_g (lw_at lw_m1 189 rfl) rfl
theorem q214 : (Jvm.Cond.code ({ cls := "ConstructiveDeskModel", name := "find", desc := "(III)I" } : Jvm.MethodName) prog_3_method_2_code (5 : Nat) (Option.some Jvm.ClassFile.FieldType.int)) ∈ lw_all := lw_g (lw_at lw_m1 190 rfl) rfl
theorem q216 : (Jvm.Cond.instanceMethod ({ cls := "ConstructiveDeskModel", name := "falsum", desc := "()I" } : Jvm.MethodName)) ∈ lw_all := lw_g (lw_at lw_m1 192 rfl) rfl
theorem q217 : (Jvm.Cond.selects "ConstructiveDeskModel" ({ cls := "ConstructiveDeskModel", name := "falsum", desc := "()I" } : Jvm.MethodName) ({ cls := "ConstructiveDeskModel", name := "falsum", desc := "()I" } : Jvm.MethodName)) ∈ lw_all := lw_g (lw_at lw_m1 193 rfl) rfl
theorem q218 : (Jvm.Cond.code ({ cls := "ConstructiveDeskModel", name := "falsum", desc := "()I" } : Jvm.MethodName) prog_3_method_5_code (1 : Nat) (Option.some Jvm.ClassFile.FieldType.int)) ∈ lw_all := lw_g (lw_at lw_m1 194 rfl) rfl
theorem q220 : (Jvm.Cond.instanceMethod ({ cls := "ConstructiveDeskModel", name := "join", desc := "(III)I" } : Jvm.MethodName)) ∈ lw_all := lw_g (lw_at lw_m1 196 rfl) rfl
theorem q221 : (Jvm.Cond.selects "ConstructiveDeskModel" ({ cls := "ConstructiveDeskModel", name := "join", desc := "(III)I" } : Jvm.MethodName) ({ cls := "ConstructiveDeskModel", name := "join", desc := "(III)I" } : Jvm.MethodName)) ∈ lw_all := lw_g (lw_at lw_m1 197 rfl) rfl
theorem q222 : (Jvm.Cond.code ({ cls := "ConstructiveDeskModel", name := "join", desc := "(III)I" } : Jvm.MethodName) prog_3_method_7_code (4 : Nat) (Option.some Jvm.ClassFile.FieldType.int)) ∈ lw_all := lw_g (lw_at lw_m1 198 rfl) rfl
theorem q223 : (Jvm.Cond.methodLink "ConstructiveDeskModel" (41 : Nat) ({ cls := "ConstructiveDeskModel", name := "is", desc := "(I)Z" } : Jvm.MethodName)) ∈ lw_all := lw_g (lw_at lw_m1 199 rfl) rfl
theorem q224 : (Jvm.Cond.privateMethod ({ cls := "ConstructiveDeskModel", name := "is", desc := "(I)Z" } : Jvm.MethodName)) ∈ lw_tbl := lw_at lw_m1 200 rfl
theorem q225 : (Jvm.Cond.instanceMethod ({ cls := "ConstructiveDeskModel", name := "is", desc := "(I)Z" } : Jvm.MethodName)) ∈ lw_all := lw_g (lw_at lw_m1 201 rfl) rfl
theorem q226 : (Jvm.Cond.code ({ cls := "ConstructiveDeskModel", name := "is", desc := "(I)Z" } : Jvm.MethodName) prog_3_method_6_code (2 : Nat) (Option.some Jvm.ClassFile.FieldType.boolean)) ∈ lw_all := lw_g (lw_at lw_m1 202 rfl) rfl
theorem q228 : (Jvm.Cond.instanceMethod ({ cls := "ConstructiveDeskModel", name := "drop", desc := "()I" } : Jvm.MethodName)) ∈ lw_all := lw_g (lw_at lw_m1 204 rfl) rfl
theorem q229 : (Jvm.Cond.selects "ConstructiveDeskModel" ({ cls := "ConstructiveDeskModel", name := "drop", desc := "()I" } : Jvm.MethodName) ({ cls := "ConstructiveDeskModel", name := "drop", desc := "()I" } : Jvm.MethodName)) ∈ lw_all := lw_g (lw_at lw_m1 205 rfl) rfl
theorem q230 : (Jvm.Cond.code ({ cls := "ConstructiveDeskModel", name := "drop", desc := "()I" } : Jvm.MethodName) prog_3_method_8_code (1 : Nat) (Option.some Jvm.ClassFile.FieldType.int)) ∈ lw_all := lw_g (lw_at lw_m1 206 rfl) rfl
theorem q232 : (Jvm.Cond.instanceMethod ({ cls := "ConstructiveDeskModel", name := "size", desc := "()I" } : Jvm.MethodName)) ∈ lw_all := lw_g (lw_at lw_m1 208 rfl) rfl
theorem q233 : (Jvm.Cond.selects "ConstructiveDeskModel" ({ cls := "ConstructiveDeskModel", name := "size", desc := "()I" } : Jvm.MethodName) ({ cls := "ConstructiveDeskModel", name := "size", desc := "()I" } : Jvm.MethodName)) ∈ lw_all := lw_g (lw_at lw_m1 209 rfl) rfl
theorem q234 : (Jvm.Cond.code ({ cls := "ConstructiveDeskModel", name := "size", desc := "()I" } : Jvm.MethodName) prog_3_method_9_code (1 : Nat) (Option.some Jvm.ClassFile.FieldType.int)) ∈ lw_all := lw_g (lw_at lw_m1 210 rfl) rfl
theorem q236 : (Jvm.Cond.instanceMethod ({ cls := "ConstructiveDeskModel", name := "follows", desc := "(II)I" } : Jvm.MethodName)) ∈ lw_all := lw_g (lw_at lw_m1 212 rfl) rfl
theorem q237 : (Jvm.Cond.selects "ConstructiveDeskModel" ({ cls := "ConstructiveDeskModel", name := "follows", desc := "(II)I" } : Jvm.MethodName) ({ cls := "ConstructiveDeskModel", name := "follows", desc := "(II)I" } : Jvm.MethodName)) ∈ lw_all := lw_g (lw_at lw_m1 213 rfl) rfl
theorem q238 : (Jvm.Cond.code ({ cls := "ConstructiveDeskModel", name := "follows", desc := "(II)I" } : Jvm.MethodName) prog_3_method_15_code (4 : Nat) (Option.some Jvm.ClassFile.FieldType.int)) ∈ lw_all := lw_g (lw_at lw_m1 214 rfl) rfl
theorem q239 : (Jvm.Cond.methodLink "ConstructiveDeskModel" (58 : Nat) ({ cls := "ConstructiveDeskModel", name := "taken", desc := "(I)I" } : Jvm.MethodName)) ∈ lw_all := lw_g (lw_at lw_m1 215 rfl) rfl
theorem q240 : (Jvm.Cond.privateMethod ({ cls := "ConstructiveDeskModel", name := "taken", desc := "(I)I" } : Jvm.MethodName)) ∈ lw_tbl := lw_at lw_m1 216 rfl
theorem q241 : (Jvm.Cond.instanceMethod ({ cls := "ConstructiveDeskModel", name := "taken", desc := "(I)I" } : Jvm.MethodName)) ∈ lw_all := lw_g (lw_at lw_m1 217 rfl) rfl
theorem q242 : (Jvm.Cond.code ({ cls := "ConstructiveDeskModel", name := "taken", desc := "(I)I" } : Jvm.MethodName) prog_3_method_14_code (2 : Nat) (Option.some Jvm.ClassFile.FieldType.int)) ∈ lw_all := lw_g (lw_at lw_m1 218 rfl) rfl
theorem q243 : (Jvm.Cond.methodLink "ConstructiveDeskModel" (55 : Nat) ({ cls := "ConstructiveDeskModel", name := "work", desc := "()V" } : Jvm.MethodName)) ∈ lw_all := lw_g (lw_at lw_m1 219 rfl) rfl
theorem q244 : (Jvm.Cond.privateMethod ({ cls := "ConstructiveDeskModel", name := "work", desc := "()V" } : Jvm.MethodName)) ∈ lw_tbl := lw_at lw_m1 220 rfl
theorem q245 : (Jvm.Cond.instanceMethod ({ cls := "ConstructiveDeskModel", name := "work", desc := "()V" } : Jvm.MethodName)) ∈ lw_all := lw_g (lw_at lw_m1 221 rfl) rfl
theorem q246 : (Jvm.Cond.code ({ cls := "ConstructiveDeskModel", name := "work", desc := "()V" } : Jvm.MethodName) prog_3_method_13_code (5 : Nat) (Option.none : Option Jvm.ClassFile.FieldType)) ∈ lw_all := lw_g (lw_at lw_m1 222 rfl) rfl
theorem q247 : (Jvm.Cond.methodLink "ConstructiveDeskModel" (52 : Nat) ({ cls := "ConstructiveDeskModel", name := "more", desc := "(III)I" } : Jvm.MethodName)) ∈ lw_all := lw_g (lw_at lw_m1 223 rfl) rfl
theorem q248 : (Jvm.Cond.privateMethod ({ cls := "ConstructiveDeskModel", name := "more", desc := "(III)I" } : Jvm.MethodName)) ∈ lw_tbl := lw_at lw_m1 224 rfl
theorem q249 : (Jvm.Cond.instanceMethod ({ cls := "ConstructiveDeskModel", name := "more", desc := "(III)I" } : Jvm.MethodName)) ∈ lw_all := lw_g (lw_at lw_m1 225 rfl) rfl
theorem q250 : (Jvm.Cond.code ({ cls := "ConstructiveDeskModel", name := "more", desc := "(III)I" } : Jvm.MethodName) prog_3_method_12_code (12 : Nat) (Option.some Jvm.ClassFile.FieldType.int)) ∈ lw_all := lw_g (lw_at lw_m1 226 rfl) rfl
theorem q251 : (Jvm.Cond.methodLink "ConstructiveDeskModel" (45 : Nat) ({ cls := "ConstructiveDeskModel", name := "has", desc := "(II)Z" } : Jvm.MethodName)) ∈ lw_all := lw_g (lw_at lw_m1 227 rfl) rfl
theorem q252 : (Jvm.Cond.privateMethod ({ cls := "ConstructiveDeskModel", name := "has", desc := "(II)Z" } : Jvm.MethodName)) ∈ lw_tbl := lw_at lw_m1 228 rfl
theorem q253 : (Jvm.Cond.instanceMethod ({ cls := "ConstructiveDeskModel", name := "has", desc := "(II)Z" } : Jvm.MethodName)) ∈ lw_all := lw_g (lw_at lw_m1 229 rfl) rfl
theorem q254 : (Jvm.Cond.code ({ cls := "ConstructiveDeskModel", name := "has", desc := "(II)Z" } : Jvm.MethodName) prog_3_method_10_code (3 : Nat) (Option.some Jvm.ClassFile.FieldType.boolean)) ∈ lw_all := lw_g (lw_at lw_m1 230 rfl) rfl
theorem q255 : (Jvm.Cond.methodLink "ConstructiveDeskModel" (49 : Nat) ({ cls := "ConstructiveDeskModel", name := "with", desc := "(III)I" } : Jvm.MethodName)) ∈ lw_all := lw_g (lw_at lw_m1 231 rfl) rfl
theorem q256 : (Jvm.Cond.privateMethod ({ cls := "ConstructiveDeskModel", name := "with", desc := "(III)I" } : Jvm.MethodName)) ∈ lw_tbl := lw_at lw_m1 232 rfl
theorem q257 : (Jvm.Cond.instanceMethod ({ cls := "ConstructiveDeskModel", name := "with", desc := "(III)I" } : Jvm.MethodName)) ∈ lw_all := lw_g (lw_at lw_m1 233 rfl) rfl
theorem q258 : (Jvm.Cond.code ({ cls := "ConstructiveDeskModel", name := "with", desc := "(III)I" } : Jvm.MethodName) prog_3_method_11_code (4 : Nat) (Option.some Jvm.ClassFile.FieldType.int)) ∈ lw_all := lw_g (lw_at lw_m1 234 rfl) rfl
theorem q260 : (Jvm.Cond.instanceMethod ({ cls := "ConstructiveDeskModel", name := "all", desc := "(I)I" } : Jvm.MethodName)) ∈ lw_all := lw_g (lw_at lw_m1 236 rfl) rfl
theorem q261 : (Jvm.Cond.selects "ConstructiveDeskModel" ({ cls := "ConstructiveDeskModel", name := "all", desc := "(I)I" } : Jvm.MethodName) ({ cls := "ConstructiveDeskModel", name := "all", desc := "(I)I" } : Jvm.MethodName)) ∈ lw_all := lw_g (lw_at lw_m1 237 rfl) rfl
theorem q262 : (Jvm.Cond.code ({ cls := "ConstructiveDeskModel", name := "all", desc := "(I)I" } : Jvm.MethodName) prog_3_method_16_code (3 : Nat) (Option.some Jvm.ClassFile.FieldType.int)) ∈ lw_all := lw_g (lw_at lw_m1 238 rfl) rfl
theorem q264 : (Jvm.Cond.instanceMethod ({ cls := "ConstructiveDeskModel", name := "classically", desc := "(II)I" } : Jvm.MethodName)) ∈ lw_all := lw_g (lw_at lw_m2 0 rfl) rfl
theorem q265 : (Jvm.Cond.selects "ConstructiveDeskModel" ({ cls := "ConstructiveDeskModel", name := "classically", desc := "(II)I" } : Jvm.MethodName) ({ cls := "ConstructiveDeskModel", name := "classically", desc := "(II)I" } : Jvm.MethodName)) ∈ lw_all := lw_g (lw_at lw_m2 1 rfl) rfl
theorem q266 : (Jvm.Cond.code ({ cls := "ConstructiveDeskModel", name := "classically", desc := "(II)I" } : Jvm.MethodName) prog_3_method_18_code (6 : Nat) (Option.some Jvm.ClassFile.FieldType.int)) ∈ lw_all := lw_g (lw_at lw_m2 2 rfl) rfl
theorem q267 : (Jvm.Cond.methodLink "ConstructiveDeskModel" (62 : Nat) ({ cls := "ConstructiveDeskModel", name := "judge", desc := "(I)V" } : Jvm.MethodName)) ∈ lw_all := lw_g (lw_at lw_m2 3 rfl) rfl
theorem q268 : (Jvm.Cond.privateMethod ({ cls := "ConstructiveDeskModel", name := "judge", desc := "(I)V" } : Jvm.MethodName)) ∈ lw_tbl := lw_at lw_m2 4 rfl
theorem q269 : (Jvm.Cond.instanceMethod ({ cls := "ConstructiveDeskModel", name := "judge", desc := "(I)V" } : Jvm.MethodName)) ∈ lw_all := lw_g (lw_at lw_m2 5 rfl) rfl
theorem q270 : (Jvm.Cond.code ({ cls := "ConstructiveDeskModel", name := "judge", desc := "(I)V" } : Jvm.MethodName) prog_3_method_17_code (5 : Nat) (Option.none : Option Jvm.ClassFile.FieldType)) ∈ lw_all := lw_g (lw_at lw_m2 6 rfl) rfl
theorem q272 : (Jvm.Cond.instanceMethod ({ cls := "ConstructiveDeskModel", name := "alike", desc := "(II)I" } : Jvm.MethodName)) ∈ lw_all := lw_g (lw_at lw_m2 8 rfl) rfl
theorem q273 : (Jvm.Cond.selects "ConstructiveDeskModel" ({ cls := "ConstructiveDeskModel", name := "alike", desc := "(II)I" } : Jvm.MethodName) ({ cls := "ConstructiveDeskModel", name := "alike", desc := "(II)I" } : Jvm.MethodName)) ∈ lw_all := lw_g (lw_at lw_m2 9 rfl) rfl
theorem q274 : (Jvm.Cond.code ({ cls := "ConstructiveDeskModel", name := "alike", desc := "(II)I" } : Jvm.MethodName) prog_3_method_19_code (3 : Nat) (Option.some Jvm.ClassFile.FieldType.int)) ∈ lw_all := lw_g (lw_at lw_m2 10 rfl) rfl
theorem q276 : (Jvm.Cond.instanceMethod ({ cls := "ConstructiveDeskModel", name := "enough", desc := "(II)I" } : Jvm.MethodName)) ∈ lw_all := lw_g (lw_at lw_m2 12 rfl) rfl
theorem q277 : (Jvm.Cond.selects "ConstructiveDeskModel" ({ cls := "ConstructiveDeskModel", name := "enough", desc := "(II)I" } : Jvm.MethodName) ({ cls := "ConstructiveDeskModel", name := "enough", desc := "(II)I" } : Jvm.MethodName)) ∈ lw_all := lw_g (lw_at lw_m2 13 rfl) rfl
theorem q278 : (Jvm.Cond.code ({ cls := "ConstructiveDeskModel", name := "enough", desc := "(II)I" } : Jvm.MethodName) prog_3_method_21_code (8 : Nat) (Option.some Jvm.ClassFile.FieldType.int)) ∈ lw_all := lw_g (lw_at lw_m2 14 rfl) rfl
theorem q279 : (Jvm.Cond.methodLink "ConstructiveDeskModel" (66 : Nat) ({ cls := "ConstructiveDeskModel", name := "count", desc := "(I)I" } : Jvm.MethodName)) ∈ lw_all := lw_g (lw_at lw_m2 15 rfl) rfl
theorem q280 : (Jvm.Cond.privateMethod ({ cls := "ConstructiveDeskModel", name := "count", desc := "(I)I" } : Jvm.MethodName)) ∈ lw_tbl := lw_at lw_m2 16 rfl
theorem q281 : (Jvm.Cond.instanceMethod ({ cls := "ConstructiveDeskModel", name := "count", desc := "(I)I" } : Jvm.MethodName)) ∈ lw_all := lw_g (lw_at lw_m2 17 rfl) rfl
theorem q282 : (Jvm.Cond.code ({ cls := "ConstructiveDeskModel", name := "count", desc := "(I)I" } : Jvm.MethodName) prog_3_method_20_code (4 : Nat) (Option.some Jvm.ClassFile.FieldType.int)) ∈ lw_all := lw_g (lw_at lw_m2 18 rfl) rfl
theorem q284 : (Jvm.Cond.instanceMethod ({ cls := "ConstructiveDeskModel", name := "saturated", desc := "(I)I" } : Jvm.MethodName)) ∈ lw_all := lw_g (lw_at lw_m2 20 rfl) rfl
theorem q285 : (Jvm.Cond.selects "ConstructiveDeskModel" ({ cls := "ConstructiveDeskModel", name := "saturated", desc := "(I)I" } : Jvm.MethodName) ({ cls := "ConstructiveDeskModel", name := "saturated", desc := "(I)I" } : Jvm.MethodName)) ∈ lw_all := lw_g (lw_at lw_m2 21 rfl) rfl
theorem q286 : (Jvm.Cond.code ({ cls := "ConstructiveDeskModel", name := "saturated", desc := "(I)I" } : Jvm.MethodName) prog_3_method_23_code (3 : Nat) (Option.some Jvm.ClassFile.FieldType.int)) ∈ lw_all := lw_g (lw_at lw_m2 22 rfl) rfl
theorem q287 : (Jvm.Cond.methodLink "ConstructiveDeskModel" (69 : Nat) ({ cls := "ConstructiveDeskModel", name := "isWorld", desc := "(I)Z" } : Jvm.MethodName)) ∈ lw_all := lw_g (lw_at lw_m2 23 rfl) rfl
theorem q288 : (Jvm.Cond.privateMethod ({ cls := "ConstructiveDeskModel", name := "isWorld", desc := "(I)Z" } : Jvm.MethodName)) ∈ lw_tbl := lw_at lw_m2 24 rfl
theorem q289 : (Jvm.Cond.instanceMethod ({ cls := "ConstructiveDeskModel", name := "isWorld", desc := "(I)Z" } : Jvm.MethodName)) ∈ lw_all := lw_g (lw_at lw_m2 25 rfl) rfl
theorem q290 : (Jvm.Cond.code ({ cls := "ConstructiveDeskModel", name := "isWorld", desc := "(I)Z" } : Jvm.MethodName) prog_3_method_22_code (3 : Nat) (Option.some Jvm.ClassFile.FieldType.boolean)) ∈ lw_all := lw_g (lw_at lw_m2 26 rfl) rfl
theorem q292 : (Jvm.Cond.instanceMethod ({ cls := "ConstructiveDeskModel", name := "worlds", desc := "()I" } : Jvm.MethodName)) ∈ lw_all := lw_g (lw_at lw_m2 28 rfl) rfl
theorem q293 : (Jvm.Cond.selects "ConstructiveDeskModel" ({ cls := "ConstructiveDeskModel", name := "worlds", desc := "()I" } : Jvm.MethodName) ({ cls := "ConstructiveDeskModel", name := "worlds", desc := "()I" } : Jvm.MethodName)) ∈ lw_all := lw_g (lw_at lw_m2 29 rfl) rfl
theorem q294 : (Jvm.Cond.code ({ cls := "ConstructiveDeskModel", name := "worlds", desc := "()I" } : Jvm.MethodName) prog_3_method_24_code (3 : Nat) (Option.some Jvm.ClassFile.FieldType.int)) ∈ lw_all := lw_g (lw_at lw_m2 30 rfl) rfl
theorem q296 : (Jvm.Cond.instanceMethod ({ cls := "ConstructiveDeskModel", name := "against", desc := "(II)I" } : Jvm.MethodName)) ∈ lw_all := lw_g (lw_at lw_m2 32 rfl) rfl
theorem q297 : (Jvm.Cond.selects "ConstructiveDeskModel" ({ cls := "ConstructiveDeskModel", name := "against", desc := "(II)I" } : Jvm.MethodName) ({ cls := "ConstructiveDeskModel", name := "against", desc := "(II)I" } : Jvm.MethodName)) ∈ lw_all := lw_g (lw_at lw_m2 33 rfl) rfl
theorem q298 : (Jvm.Cond.code ({ cls := "ConstructiveDeskModel", name := "against", desc := "(II)I" } : Jvm.MethodName) prog_3_method_25_code (5 : Nat) (Option.some Jvm.ClassFile.FieldType.int)) ∈ lw_all := lw_g (lw_at lw_m2 34 rfl) rfl
theorem q300 : (Jvm.Cond.instanceMethod ({ cls := "ConstructiveDeskModel", name := "closedSets", desc := "()I" } : Jvm.MethodName)) ∈ lw_all := lw_g (lw_at lw_m2 36 rfl) rfl
theorem q301 : (Jvm.Cond.selects "ConstructiveDeskModel" ({ cls := "ConstructiveDeskModel", name := "closedSets", desc := "()I" } : Jvm.MethodName) ({ cls := "ConstructiveDeskModel", name := "closedSets", desc := "()I" } : Jvm.MethodName)) ∈ lw_all := lw_g (lw_at lw_m2 37 rfl) rfl
theorem q302 : (Jvm.Cond.code ({ cls := "ConstructiveDeskModel", name := "closedSets", desc := "()I" } : Jvm.MethodName) prog_3_method_26_code (3 : Nat) (Option.some Jvm.ClassFile.FieldType.int)) ∈ lw_all := lw_g (lw_at lw_m2 38 rfl) rfl
theorem in_X1 : ∀ w ∈ wsX10, w ∈ lw_all := lw_in wsX10 [186, 188, 190, 192, 194, 196, 198] (by decide +kernel) (by decide +kernel)
end
section
set_option maxRecDepth 100000
theorem dX0_init_0 : decode cX0_init 0 = .ok (.aload_n 0, 1) := by decide +kernel
theorem dX0_init_1 : decode cX0_init 1 = .ok (.invokespecial 1, 3) := by decide +kernel
theorem dX0_init_4 : decode cX0_init 4 = .ok (.aload_n 0, 1) := by decide +kernel
theorem dX0_init_5 : decode cX0_init 5 = .ok (.bipush 11, 2) := by decide +kernel
theorem dX0_init_7 : decode cX0_init 7 = .ok (.newarray .byte, 2) := by decide +kernel
theorem dX0_init_9 : decode cX0_init 9 = .ok (.putfield 7, 3) := by decide +kernel
theorem dX0_init_12 : decode cX0_init 12 = .ok (.aload_n 0, 1) := by decide +kernel
theorem dX0_init_13 : decode cX0_init 13 = .ok (.bipush 11, 2) := by decide +kernel
theorem dX0_init_15 : decode cX0_init 15 = .ok (.newarray .byte, 2) := by decide +kernel
theorem dX0_init_17 : decode cX0_init 17 = .ok (.putfield 13, 3) := by decide +kernel
theorem dX0_init_20 : decode cX0_init 20 = .ok (.aload_n 0, 1) := by decide +kernel
theorem dX0_init_21 : decode cX0_init 21 = .ok (.bipush 11, 2) := by decide +kernel
theorem dX0_init_23 : decode cX0_init 23 = .ok (.newarray .byte, 2) := by decide +kernel
theorem dX0_init_25 : decode cX0_init 25 = .ok (.putfield 16, 3) := by decide +kernel
theorem dX0_init_28 : decode cX0_init 28 = .ok (.aload_n 0, 1) := by decide +kernel
theorem dX0_init_29 : decode cX0_init 29 = .ok (.sipush 2048, 3) := by decide +kernel
theorem dX0_init_32 : decode cX0_init 32 = .ok (.newarray .short, 2) := by decide +kernel
theorem dX0_init_34 : decode cX0_init 34 = .ok (.putfield 19, 3) := by decide +kernel
theorem dX0_init_37 : decode cX0_init 37 = .ok (.aload_n 0, 1) := by decide +kernel
theorem dX0_init_38 : decode cX0_init 38 = .ok (.sipush 2048, 3) := by decide +kernel
theorem dX0_init_41 : decode cX0_init 41 = .ok (.newarray .short, 2) := by decide +kernel
theorem dX0_init_43 : decode cX0_init 43 = .ok (.putfield 23, 3) := by decide +kernel
theorem dX0_init_46 : decode cX0_init 46 = .ok (.aload_n 0, 1) := by decide +kernel
theorem dX0_init_47 : decode cX0_init 47 = .ok (.iconst 0, 1) := by decide +kernel
theorem dX0_init_48 : decode cX0_init 48 = .ok (.putfield 26, 3) := by decide +kernel
theorem dX0_init_51 : decode cX0_init 51 = .ok (.return_, 1) := by decide +kernel
theorem dX0_atom_0 : decode cX0_atom 0 = .ok (.iload_n 1, 1) := by decide +kernel
theorem dX0_atom_1 : decode cX0_atom 1 = .ok (.ifCond .lt 8, 3) := by decide +kernel
theorem dX0_atom_4 : decode cX0_atom 4 = .ok (.iload_n 1, 1) := by decide +kernel
theorem dX0_atom_5 : decode cX0_atom 5 = .ok (.iconst 4, 1) := by decide +kernel
theorem dX0_atom_6 : decode cX0_atom 6 = .ok (.if_icmp .lt 7, 3) := by decide +kernel
theorem dX0_atom_9 : decode cX0_atom 9 = .ok (.iconst (-1), 1) := by decide +kernel
theorem dX0_atom_10 : decode cX0_atom 10 = .ok (.goto 10, 3) := by decide +kernel
theorem dX0_atom_13 : decode cX0_atom 13 = .ok (.aload_n 0, 1) := by decide +kernel
theorem dX0_atom_14 : decode cX0_atom 14 = .ok (.iconst 3, 1) := by decide +kernel
theorem dX0_atom_15 : decode cX0_atom 15 = .ok (.iload_n 1, 1) := by decide +kernel
theorem dX0_atom_16 : decode cX0_atom 16 = .ok (.iconst 0, 1) := by decide +kernel
theorem dX0_atom_17 : decode cX0_atom 17 = .ok (.invokevirtual 34, 3) := by decide +kernel
theorem dX0_atom_20 : decode cX0_atom 20 = .ok (.ireturn, 1) := by decide +kernel
theorem dX0_put_0 : decode cX0_put 0 = .ok (.iconst 0, 1) := by decide +kernel
theorem dX0_put_1 : decode cX0_put 1 = .ok (.istore 4, 2) := by decide +kernel
theorem dX0_put_3 : decode cX0_put 3 = .ok (.iload 4, 2) := by decide +kernel
theorem dX0_put_5 : decode cX0_put 5 = .ok (.aload_n 0, 1) := by decide +kernel
theorem dX0_put_6 : decode cX0_put 6 = .ok (.getfield 26, 3) := by decide +kernel
theorem dX0_put_9 : decode cX0_put 9 = .ok (.if_icmp .ge 45, 3) := by decide +kernel
theorem dX0_put_12 : decode cX0_put 12 = .ok (.aload_n 0, 1) := by decide +kernel
theorem dX0_put_13 : decode cX0_put 13 = .ok (.getfield 7, 3) := by decide +kernel
theorem dX0_put_16 : decode cX0_put 16 = .ok (.iload 4, 2) := by decide +kernel
theorem dX0_put_18 : decode cX0_put 18 = .ok (.baload, 1) := by decide +kernel
theorem dX0_put_19 : decode cX0_put 19 = .ok (.iload_n 1, 1) := by decide +kernel
theorem dX0_put_20 : decode cX0_put 20 = .ok (.if_icmp .ne 28, 3) := by decide +kernel
theorem dX0_put_23 : decode cX0_put 23 = .ok (.aload_n 0, 1) := by decide +kernel
theorem dX0_put_24 : decode cX0_put 24 = .ok (.getfield 13, 3) := by decide +kernel
theorem dX0_put_27 : decode cX0_put 27 = .ok (.iload 4, 2) := by decide +kernel
theorem dX0_put_29 : decode cX0_put 29 = .ok (.baload, 1) := by decide +kernel
theorem dX0_put_30 : decode cX0_put 30 = .ok (.iload_n 2, 1) := by decide +kernel
theorem dX0_put_31 : decode cX0_put 31 = .ok (.if_icmp .ne 17, 3) := by decide +kernel
theorem dX0_put_34 : decode cX0_put 34 = .ok (.aload_n 0, 1) := by decide +kernel
theorem dX0_put_35 : decode cX0_put 35 = .ok (.getfield 16, 3) := by decide +kernel
theorem dX0_put_38 : decode cX0_put 38 = .ok (.iload 4, 2) := by decide +kernel
theorem dX0_put_40 : decode cX0_put 40 = .ok (.baload, 1) := by decide +kernel
theorem dX0_put_41 : decode cX0_put 41 = .ok (.iload_n 3, 1) := by decide +kernel
theorem dX0_put_42 : decode cX0_put 42 = .ok (.if_icmp .ne 6, 3) := by decide +kernel
theorem dX0_put_45 : decode cX0_put 45 = .ok (.iload 4, 2) := by decide +kernel
theorem dX0_put_47 : decode cX0_put 47 = .ok (.ireturn, 1) := by decide +kernel
theorem dX0_put_48 : decode cX0_put 48 = .ok (.iinc 4 1, 3) := by decide +kernel
theorem dX0_put_51 : decode cX0_put 51 = .ok (.goto (-48), 3) := by decide +kernel
theorem dX0_put_54 : decode cX0_put 54 = .ok (.aload_n 0, 1) := by decide +kernel
theorem dX0_put_55 : decode cX0_put 55 = .ok (.getfield 26, 3) := by decide +kernel
theorem dX0_put_58 : decode cX0_put 58 = .ok (.bipush 11, 2) := by decide +kernel
theorem dX0_put_60 : decode cX0_put 60 = .ok (.if_icmp .ne 6, 3) := by decide +kernel
theorem dX0_put_63 : decode cX0_put 63 = .ok (.bipush (-2), 2) := by decide +kernel
theorem dX0_put_65 : decode cX0_put 65 = .ok (.ireturn, 1) := by decide +kernel
theorem dX0_put_66 : decode cX0_put 66 = .ok (.aload_n 0, 1) := by decide +kernel
theorem dX0_put_67 : decode cX0_put 67 = .ok (.getfield 7, 3) := by decide +kernel
theorem dX0_put_70 : decode cX0_put 70 = .ok (.aload_n 0, 1) := by decide +kernel
theorem dX0_put_71 : decode cX0_put 71 = .ok (.getfield 26, 3) := by decide +kernel
theorem dX0_put_74 : decode cX0_put 74 = .ok (.iload_n 1, 1) := by decide +kernel
theorem dX0_put_75 : decode cX0_put 75 = .ok (.i2b, 1) := by decide +kernel
theorem dX0_put_76 : decode cX0_put 76 = .ok (.bastore, 1) := by decide +kernel
theorem dX0_put_77 : decode cX0_put 77 = .ok (.aload_n 0, 1) := by decide +kernel
theorem dX0_put_78 : decode cX0_put 78 = .ok (.getfield 13, 3) := by decide +kernel
theorem dX0_put_81 : decode cX0_put 81 = .ok (.aload_n 0, 1) := by decide +kernel
theorem dX0_put_82 : decode cX0_put 82 = .ok (.getfield 26, 3) := by decide +kernel
theorem dX0_put_85 : decode cX0_put 85 = .ok (.iload_n 2, 1) := by decide +kernel
theorem dX0_put_86 : decode cX0_put 86 = .ok (.i2b, 1) := by decide +kernel
theorem dX0_put_87 : decode cX0_put 87 = .ok (.bastore, 1) := by decide +kernel
theorem dX0_put_88 : decode cX0_put 88 = .ok (.aload_n 0, 1) := by decide +kernel
theorem dX0_put_89 : decode cX0_put 89 = .ok (.getfield 16, 3) := by decide +kernel
theorem dX0_put_92 : decode cX0_put 92 = .ok (.aload_n 0, 1) := by decide +kernel
theorem dX0_put_93 : decode cX0_put 93 = .ok (.getfield 26, 3) := by decide +kernel
theorem dX0_put_96 : decode cX0_put 96 = .ok (.iload_n 3, 1) := by decide +kernel
theorem dX0_put_97 : decode cX0_put 97 = .ok (.i2b, 1) := by decide +kernel
theorem dX0_put_98 : decode cX0_put 98 = .ok (.bastore, 1) := by decide +kernel
theorem dX0_put_99 : decode cX0_put 99 = .ok (.aload_n 0, 1) := by decide +kernel
theorem dX0_put_100 : decode cX0_put 100 = .ok (.dup, 1) := by decide +kernel
theorem dX0_put_101 : decode cX0_put 101 = .ok (.getfield 26, 3) := by decide +kernel
theorem dX0_put_104 : decode cX0_put 104 = .ok (.iconst 1, 1) := by decide +kernel
theorem dX0_put_105 : decode cX0_put 105 = .ok (.iadd, 1) := by decide +kernel
theorem dX0_put_106 : decode cX0_put 106 = .ok (.putfield 26, 3) := by decide +kernel
theorem dX0_put_109 : decode cX0_put 109 = .ok (.aload_n 0, 1) := by decide +kernel
theorem dX0_put_110 : decode cX0_put 110 = .ok (.iconst 0, 1) := by decide +kernel
theorem dX0_put_111 : decode cX0_put 111 = .ok (.putfield 30, 3) := by decide +kernel
theorem dX0_put_114 : decode cX0_put 114 = .ok (.aload_n 0, 1) := by decide +kernel
theorem dX0_put_115 : decode cX0_put 115 = .ok (.getfield 26, 3) := by decide +kernel
theorem dX0_put_118 : decode cX0_put 118 = .ok (.iconst 1, 1) := by decide +kernel
theorem dX0_put_119 : decode cX0_put 119 = .ok (.isub, 1) := by decide +kernel
theorem dX0_put_120 : decode cX0_put 120 = .ok (.ireturn, 1) := by decide +kernel
theorem dX0_falsum_0 : decode cX0_falsum 0 = .ok (.aload_n 0, 1) := by decide +kernel
theorem dX0_falsum_1 : decode cX0_falsum 1 = .ok (.iconst 4, 1) := by decide +kernel
theorem dX0_falsum_2 : decode cX0_falsum 2 = .ok (.iconst 0, 1) := by decide +kernel
theorem dX0_falsum_3 : decode cX0_falsum 3 = .ok (.iconst 0, 1) := by decide +kernel
theorem dX0_falsum_4 : decode cX0_falsum 4 = .ok (.invokevirtual 34, 3) := by decide +kernel
theorem dX0_falsum_7 : decode cX0_falsum 7 = .ok (.ireturn, 1) := by decide +kernel
theorem dX0_join_0 : decode cX0_join 0 = .ok (.iload_n 1, 1) := by decide +kernel
theorem dX0_join_1 : decode cX0_join 1 = .ok (.ifCond .lt 24, 3) := by decide +kernel
theorem dX0_join_4 : decode cX0_join 4 = .ok (.iload_n 1, 1) := by decide +kernel
theorem dX0_join_5 : decode cX0_join 5 = .ok (.iconst 2, 1) := by decide +kernel
theorem dX0_join_6 : decode cX0_join 6 = .ok (.if_icmp .gt 19, 3) := by decide +kernel
theorem dX0_join_9 : decode cX0_join 9 = .ok (.aload_n 0, 1) := by decide +kernel
theorem dX0_join_10 : decode cX0_join 10 = .ok (.iload_n 2, 1) := by decide +kernel
theorem dX0_join_11 : decode cX0_join 11 = .ok (.invokevirtual 38, 3) := by decide +kernel
theorem dX0_join_14 : decode cX0_join 14 = .ok (.ifCond .ne 11, 3) := by decide +kernel
theorem dX0_join_17 : decode cX0_join 17 = .ok (.aload_n 0, 1) := by decide +kernel
theorem dX0_join_18 : decode cX0_join 18 = .ok (.iload_n 3, 1) := by decide +kernel
theorem dX0_join_19 : decode cX0_join 19 = .ok (.invokevirtual 38, 3) := by decide +kernel
theorem dX0_join_22 : decode cX0_join 22 = .ok (.ifCond .eq 7, 3) := by decide +kernel
theorem dX0_join_25 : decode cX0_join 25 = .ok (.iconst (-1), 1) := by decide +kernel
theorem dX0_join_26 : decode cX0_join 26 = .ok (.goto 10, 3) := by decide +kernel
theorem dX0_join_29 : decode cX0_join 29 = .ok (.aload_n 0, 1) := by decide +kernel
theorem dX0_join_30 : decode cX0_join 30 = .ok (.iload_n 1, 1) := by decide +kernel
theorem dX0_join_31 : decode cX0_join 31 = .ok (.iload_n 2, 1) := by decide +kernel
theorem dX0_join_32 : decode cX0_join 32 = .ok (.iload_n 3, 1) := by decide +kernel
theorem dX0_join_33 : decode cX0_join 33 = .ok (.invokevirtual 34, 3) := by decide +kernel
theorem dX0_join_36 : decode cX0_join 36 = .ok (.ireturn, 1) := by decide +kernel
theorem dX0_missing_0 : decode cX0_missing 0 = .ok (.iload_n 1, 1) := by decide +kernel
theorem dX0_missing_1 : decode cX0_missing 1 = .ok (.ifCond .lt 11, 3) := by decide +kernel
theorem dX0_missing_4 : decode cX0_missing 4 = .ok (.iload_n 1, 1) := by decide +kernel
theorem dX0_missing_5 : decode cX0_missing 5 = .ok (.aload_n 0, 1) := by decide +kernel
theorem dX0_missing_6 : decode cX0_missing 6 = .ok (.getfield 26, 3) := by decide +kernel
theorem dX0_missing_9 : decode cX0_missing 9 = .ok (.if_icmp .lt 7, 3) := by decide +kernel
theorem dX0_missing_12 : decode cX0_missing 12 = .ok (.iconst 1, 1) := by decide +kernel
theorem dX0_missing_13 : decode cX0_missing 13 = .ok (.goto 4, 3) := by decide +kernel
theorem dX0_missing_16 : decode cX0_missing 16 = .ok (.iconst 0, 1) := by decide +kernel
theorem dX0_missing_17 : decode cX0_missing 17 = .ok (.ireturn, 1) := by decide +kernel
theorem dX0_drop_0 : decode cX0_drop 0 = .ok (.aload_n 0, 1) := by decide +kernel
theorem dX0_drop_1 : decode cX0_drop 1 = .ok (.getfield 26, 3) := by decide +kernel
theorem dX0_drop_4 : decode cX0_drop 4 = .ok (.ifCond .ne 6, 3) := by decide +kernel
theorem dX0_drop_7 : decode cX0_drop 7 = .ok (.bipush (-4), 2) := by decide +kernel
theorem dX0_drop_9 : decode cX0_drop 9 = .ok (.ireturn, 1) := by decide +kernel
theorem dX0_drop_10 : decode cX0_drop 10 = .ok (.aload_n 0, 1) := by decide +kernel
theorem dX0_drop_11 : decode cX0_drop 11 = .ok (.dup, 1) := by decide +kernel
theorem dX0_drop_12 : decode cX0_drop 12 = .ok (.getfield 26, 3) := by decide +kernel
theorem dX0_drop_15 : decode cX0_drop 15 = .ok (.iconst 1, 1) := by decide +kernel
theorem dX0_drop_16 : decode cX0_drop 16 = .ok (.isub, 1) := by decide +kernel
theorem dX0_drop_17 : decode cX0_drop 17 = .ok (.putfield 26, 3) := by decide +kernel
theorem dX0_drop_20 : decode cX0_drop 20 = .ok (.aload_n 0, 1) := by decide +kernel
theorem dX0_drop_21 : decode cX0_drop 21 = .ok (.iconst 0, 1) := by decide +kernel
theorem dX0_drop_22 : decode cX0_drop 22 = .ok (.putfield 30, 3) := by decide +kernel
theorem dX0_drop_25 : decode cX0_drop 25 = .ok (.aload_n 0, 1) := by decide +kernel
theorem dX0_drop_26 : decode cX0_drop 26 = .ok (.getfield 26, 3) := by decide +kernel
theorem dX0_drop_29 : decode cX0_drop 29 = .ok (.ireturn, 1) := by decide +kernel
theorem dX0_size_0 : decode cX0_size 0 = .ok (.aload_n 0, 1) := by decide +kernel
theorem dX0_size_1 : decode cX0_size 1 = .ok (.getfield 26, 3) := by decide +kernel
theorem dX0_size_4 : decode cX0_size 4 = .ok (.ireturn, 1) := by decide +kernel
theorem dX0_follows_0 : decode cX0_follows 0 = .ok (.aload_n 0, 1) := by decide +kernel
theorem dX0_follows_1 : decode cX0_follows 1 = .ok (.iload_n 2, 1) := by decide +kernel
theorem dX0_follows_2 : decode cX0_follows 2 = .ok (.invokevirtual 38, 3) := by decide +kernel
theorem dX0_follows_5 : decode cX0_follows 5 = .ok (.ifCond .eq 5, 3) := by decide +kernel
theorem dX0_follows_8 : decode cX0_follows 8 = .ok (.iconst (-1), 1) := by decide +kernel
theorem dX0_follows_9 : decode cX0_follows 9 = .ok (.ireturn, 1) := by decide +kernel
theorem dX0_follows_10 : decode cX0_follows 10 = .ok (.aload_n 0, 1) := by decide +kernel
theorem dX0_follows_11 : decode cX0_follows 11 = .ok (.invokevirtual 63, 3) := by decide +kernel
theorem dX0_follows_14 : decode cX0_follows 14 = .ok (.iload_n 1, 1) := by decide +kernel
theorem dX0_follows_15 : decode cX0_follows 15 = .ok (.aload_n 0, 1) := by decide +kernel
theorem dX0_follows_16 : decode cX0_follows 16 = .ok (.invokevirtual 56, 3) := by decide +kernel
theorem dX0_follows_19 : decode cX0_follows 19 = .ok (.iand, 1) := by decide +kernel
theorem dX0_follows_20 : decode cX0_follows 20 = .ok (.istore_n 3, 1) := by decide +kernel
theorem dX0_follows_21 : decode cX0_follows 21 = .ok (.aload_n 0, 1) := by decide +kernel
theorem dX0_follows_22 : decode cX0_follows 22 = .ok (.iload_n 3, 1) := by decide +kernel
theorem dX0_follows_23 : decode cX0_follows 23 = .ok (.invokevirtual 66, 3) := by decide +kernel
theorem dX0_follows_26 : decode cX0_follows 26 = .ok (.istore 4, 2) := by decide +kernel
theorem dX0_follows_28 : decode cX0_follows 28 = .ok (.iload 4, 2) := by decide +kernel
theorem dX0_follows_30 : decode cX0_follows 30 = .ok (.iload_n 2, 1) := by decide +kernel
theorem dX0_follows_31 : decode cX0_follows 31 = .ok (.ishr, 1) := by decide +kernel
theorem dX0_follows_32 : decode cX0_follows 32 = .ok (.iconst 1, 1) := by decide +kernel
theorem dX0_follows_33 : decode cX0_follows 33 = .ok (.iand, 1) := by decide +kernel
theorem dX0_follows_34 : decode cX0_follows 34 = .ok (.ireturn, 1) := by decide +kernel
theorem dX0_find_0 : decode cX0_find 0 = .ok (.aload_n 0, 1) := by decide +kernel
theorem dX0_find_1 : decode cX0_find 1 = .ok (.getfield 30, 3) := by decide +kernel
theorem dX0_find_4 : decode cX0_find 4 = .ok (.ifCond .eq 4, 3) := by decide +kernel
theorem dX0_find_7 : decode cX0_find 7 = .ok (.return_, 1) := by decide +kernel
theorem dX0_find_8 : decode cX0_find 8 = .ok (.aload_n 0, 1) := by decide +kernel
theorem dX0_find_9 : decode cX0_find 9 = .ok (.iconst 1, 1) := by decide +kernel
theorem dX0_find_10 : decode cX0_find 10 = .ok (.putfield 30, 3) := by decide +kernel
theorem dX0_find_13 : decode cX0_find 13 = .ok (.aload_n 0, 1) := by decide +kernel
theorem dX0_find_14 : decode cX0_find 14 = .ok (.iconst 0, 1) := by decide +kernel
theorem dX0_find_15 : decode cX0_find 15 = .ok (.putfield 46, 3) := by decide +kernel
theorem dX0_find_18 : decode cX0_find 18 = .ok (.aload_n 0, 1) := by decide +kernel
theorem dX0_find_19 : decode cX0_find 19 = .ok (.invokevirtual 56, 3) := by decide +kernel
theorem dX0_find_22 : decode cX0_find 22 = .ok (.istore_n 1, 1) := by decide +kernel
theorem dX0_find_23 : decode cX0_find 23 = .ok (.iload_n 1, 1) := by decide +kernel
theorem dX0_find_24 : decode cX0_find 24 = .ok (.ifCond .lt 40, 3) := by decide +kernel
theorem dX0_find_27 : decode cX0_find 27 = .ok (.aload_n 0, 1) := by decide +kernel
theorem dX0_find_28 : decode cX0_find 28 = .ok (.iload_n 1, 1) := by decide +kernel
theorem dX0_find_29 : decode cX0_find 29 = .ok (.invokevirtual 60, 3) := by decide +kernel
theorem dX0_find_32 : decode cX0_find 32 = .ok (.istore_n 2, 1) := by decide +kernel
theorem dX0_find_33 : decode cX0_find 33 = .ok (.iload_n 2, 1) := by decide +kernel
theorem dX0_find_34 : decode cX0_find 34 = .ok (.ifCond .eq 24, 3) := by decide +kernel
theorem dX0_find_37 : decode cX0_find 37 = .ok (.aload_n 0, 1) := by decide +kernel
theorem dX0_find_38 : decode cX0_find 38 = .ok (.getfield 19, 3) := by decide +kernel
theorem dX0_find_41 : decode cX0_find 41 = .ok (.aload_n 0, 1) := by decide +kernel
theorem dX0_find_42 : decode cX0_find 42 = .ok (.getfield 46, 3) := by decide +kernel
theorem dX0_find_45 : decode cX0_find 45 = .ok (.iload_n 1, 1) := by decide +kernel
theorem dX0_find_46 : decode cX0_find 46 = .ok (.i2s, 1) := by decide +kernel
theorem dX0_find_47 : decode cX0_find 47 = .ok (.sastore, 1) := by decide +kernel
theorem dX0_find_48 : decode cX0_find 48 = .ok (.aload_n 0, 1) := by decide +kernel
theorem dX0_find_49 : decode cX0_find 49 = .ok (.dup, 1) := by decide +kernel
theorem dX0_find_50 : decode cX0_find 50 = .ok (.getfield 46, 3) := by decide +kernel
theorem dX0_find_53 : decode cX0_find 53 = .ok (.iconst 1, 1) := by decide +kernel
theorem dX0_find_54 : decode cX0_find 54 = .ok (.iadd, 1) := by decide +kernel
theorem dX0_find_55 : decode cX0_find 55 = .ok (.putfield 46, 3) := by decide +kernel
theorem dX0_find_58 : decode cX0_find 58 = .ok (.iinc 1 (-1), 3) := by decide +kernel
theorem dX0_find_61 : decode cX0_find 61 = .ok (.goto (-38), 3) := by decide +kernel
theorem dX0_find_64 : decode cX0_find 64 = .ok (.return_, 1) := by decide +kernel
theorem dX0_every_0 : decode cX0_every 0 = .ok (.iconst 1, 1) := by decide +kernel
theorem dX0_every_1 : decode cX0_every 1 = .ok (.aload_n 0, 1) := by decide +kernel
theorem dX0_every_2 : decode cX0_every 2 = .ok (.getfield 26, 3) := by decide +kernel
theorem dX0_every_5 : decode cX0_every 5 = .ok (.ishl, 1) := by decide +kernel
theorem dX0_every_6 : decode cX0_every 6 = .ok (.iconst 1, 1) := by decide +kernel
theorem dX0_every_7 : decode cX0_every 7 = .ok (.isub, 1) := by decide +kernel
theorem dX0_every_8 : decode cX0_every 8 = .ok (.ireturn, 1) := by decide +kernel
theorem dX0_isWorld_0 : decode cX0_isWorld 0 = .ok (.aload_n 0, 1) := by decide +kernel
theorem dX0_isWorld_1 : decode cX0_isWorld 1 = .ok (.iload_n 1, 1) := by decide +kernel
theorem dX0_isWorld_2 : decode cX0_isWorld 2 = .ok (.invokevirtual 49, 3) := by decide +kernel
theorem dX0_isWorld_5 : decode cX0_isWorld 5 = .ok (.istore_n 2, 1) := by decide +kernel
theorem dX0_isWorld_6 : decode cX0_isWorld 6 = .ok (.iconst 0, 1) := by decide +kernel
theorem dX0_isWorld_7 : decode cX0_isWorld 7 = .ok (.istore_n 3, 1) := by decide +kernel
theorem dX0_isWorld_8 : decode cX0_isWorld 8 = .ok (.iload_n 3, 1) := by decide +kernel
theorem dX0_isWorld_9 : decode cX0_isWorld 9 = .ok (.aload_n 0, 1) := by decide +kernel
theorem dX0_isWorld_10 : decode cX0_isWorld 10 = .ok (.getfield 26, 3) := by decide +kernel
theorem dX0_isWorld_13 : decode cX0_isWorld 13 = .ok (.if_icmp .ge 50, 3) := by decide +kernel
theorem dX0_isWorld_16 : decode cX0_isWorld 16 = .ok (.iload_n 2, 1) := by decide +kernel
theorem dX0_isWorld_17 : decode cX0_isWorld 17 = .ok (.ifCond .eq 46, 3) := by decide +kernel
theorem dX0_isWorld_20 : decode cX0_isWorld 20 = .ok (.aload_n 0, 1) := by decide +kernel
theorem dX0_isWorld_21 : decode cX0_isWorld 21 = .ok (.getfield 7, 3) := by decide +kernel
theorem dX0_isWorld_24 : decode cX0_isWorld 24 = .ok (.iload_n 3, 1) := by decide +kernel
theorem dX0_isWorld_25 : decode cX0_isWorld 25 = .ok (.baload, 1) := by decide +kernel
theorem dX0_isWorld_26 : decode cX0_isWorld 26 = .ok (.iconst 2, 1) := by decide +kernel
theorem dX0_isWorld_27 : decode cX0_isWorld 27 = .ok (.if_icmp .ne 30, 3) := by decide +kernel
theorem dX0_isWorld_30 : decode cX0_isWorld 30 = .ok (.aload_n 0, 1) := by decide +kernel
theorem dX0_isWorld_31 : decode cX0_isWorld 31 = .ok (.iload_n 1, 1) := by decide +kernel
theorem dX0_isWorld_32 : decode cX0_isWorld 32 = .ok (.iload_n 3, 1) := by decide +kernel
theorem dX0_isWorld_33 : decode cX0_isWorld 33 = .ok (.invokevirtual 42, 3) := by decide +kernel
theorem dX0_isWorld_36 : decode cX0_isWorld 36 = .ok (.ifCond .ne 21, 3) := by decide +kernel
theorem dX0_isWorld_39 : decode cX0_isWorld 39 = .ok (.aload_n 0, 1) := by decide +kernel
theorem dX0_isWorld_40 : decode cX0_isWorld 40 = .ok (.iload_n 1, 1) := by decide +kernel
theorem dX0_isWorld_41 : decode cX0_isWorld 41 = .ok (.aload_n 0, 1) := by decide +kernel
theorem dX0_isWorld_42 : decode cX0_isWorld 42 = .ok (.getfield 13, 3) := by decide +kernel
theorem dX0_isWorld_45 : decode cX0_isWorld 45 = .ok (.iload_n 3, 1) := by decide +kernel
theorem dX0_isWorld_46 : decode cX0_isWorld 46 = .ok (.baload, 1) := by decide +kernel
theorem dX0_isWorld_47 : decode cX0_isWorld 47 = .ok (.aload_n 0, 1) := by decide +kernel
theorem dX0_isWorld_48 : decode cX0_isWorld 48 = .ok (.getfield 16, 3) := by decide +kernel
theorem dX0_isWorld_51 : decode cX0_isWorld 51 = .ok (.iload_n 3, 1) := by decide +kernel
theorem dX0_isWorld_52 : decode cX0_isWorld 52 = .ok (.baload, 1) := by decide +kernel
theorem dX0_isWorld_53 : decode cX0_isWorld 53 = .ok (.invokevirtual 52, 3) := by decide +kernel
theorem dX0_isWorld_56 : decode cX0_isWorld 56 = .ok (.istore_n 2, 1) := by decide +kernel
theorem dX0_isWorld_57 : decode cX0_isWorld 57 = .ok (.iinc 3 1, 3) := by decide +kernel
theorem dX0_isWorld_60 : decode cX0_isWorld 60 = .ok (.goto (-52), 3) := by decide +kernel
theorem dX0_isWorld_63 : decode cX0_isWorld 63 = .ok (.iload_n 2, 1) := by decide +kernel
theorem dX0_isWorld_64 : decode cX0_isWorld 64 = .ok (.ireturn, 1) := by decide +kernel
theorem dX0_keeps_0 : decode cX0_keeps 0 = .ok (.iconst 1, 1) := by decide +kernel
theorem dX0_keeps_1 : decode cX0_keeps 1 = .ok (.istore_n 2, 1) := by decide +kernel
theorem dX0_keeps_2 : decode cX0_keeps 2 = .ok (.iconst 0, 1) := by decide +kernel
theorem dX0_keeps_3 : decode cX0_keeps 3 = .ok (.istore_n 3, 1) := by decide +kernel
theorem dX0_keeps_4 : decode cX0_keeps 4 = .ok (.iload_n 3, 1) := by decide +kernel
theorem dX0_keeps_5 : decode cX0_keeps 5 = .ok (.aload_n 0, 1) := by decide +kernel
theorem dX0_keeps_6 : decode cX0_keeps 6 = .ok (.getfield 26, 3) := by decide +kernel
theorem dX0_keeps_9 : decode cX0_keeps 9 = .ok (.if_icmp .ge 192, 3) := by decide +kernel
theorem dX0_keeps_12 : decode cX0_keeps 12 = .ok (.iload_n 2, 1) := by decide +kernel
theorem dX0_keeps_13 : decode cX0_keeps 13 = .ok (.ifCond .eq 188, 3) := by decide +kernel
theorem dX0_keeps_16 : decode cX0_keeps 16 = .ok (.aload_n 0, 1) := by decide +kernel
theorem dX0_keeps_17 : decode cX0_keeps 17 = .ok (.iload_n 1, 1) := by decide +kernel
theorem dX0_keeps_18 : decode cX0_keeps 18 = .ok (.iload_n 3, 1) := by decide +kernel
theorem dX0_keeps_19 : decode cX0_keeps 19 = .ok (.invokevirtual 42, 3) := by decide +kernel
theorem dX0_keeps_22 : decode cX0_keeps 22 = .ok (.istore 4, 2) := by decide +kernel
theorem dX0_keeps_24 : decode cX0_keeps 24 = .ok (.aload_n 0, 1) := by decide +kernel
theorem dX0_keeps_25 : decode cX0_keeps 25 = .ok (.iload_n 1, 1) := by decide +kernel
theorem dX0_keeps_26 : decode cX0_keeps 26 = .ok (.aload_n 0, 1) := by decide +kernel
theorem dX0_keeps_27 : decode cX0_keeps 27 = .ok (.getfield 13, 3) := by decide +kernel
theorem dX0_keeps_30 : decode cX0_keeps 30 = .ok (.iload_n 3, 1) := by decide +kernel
theorem dX0_keeps_31 : decode cX0_keeps 31 = .ok (.baload, 1) := by decide +kernel
theorem dX0_keeps_32 : decode cX0_keeps 32 = .ok (.invokevirtual 42, 3) := by decide +kernel
theorem dX0_keeps_35 : decode cX0_keeps 35 = .ok (.istore 5, 2) := by decide +kernel
theorem dX0_keeps_37 : decode cX0_keeps 37 = .ok (.aload_n 0, 1) := by decide +kernel
theorem dX0_keeps_38 : decode cX0_keeps 38 = .ok (.iload_n 1, 1) := by decide +kernel
theorem dX0_keeps_39 : decode cX0_keeps 39 = .ok (.aload_n 0, 1) := by decide +kernel
theorem dX0_keeps_40 : decode cX0_keeps 40 = .ok (.getfield 16, 3) := by decide +kernel
theorem dX0_keeps_43 : decode cX0_keeps 43 = .ok (.iload_n 3, 1) := by decide +kernel
theorem dX0_keeps_44 : decode cX0_keeps 44 = .ok (.baload, 1) := by decide +kernel
theorem dX0_keeps_45 : decode cX0_keeps 45 = .ok (.invokevirtual 42, 3) := by decide +kernel
theorem dX0_keeps_48 : decode cX0_keeps 48 = .ok (.istore 6, 2) := by decide +kernel
theorem dX0_keeps_50 : decode cX0_keeps 50 = .ok (.aload_n 0, 1) := by decide +kernel
theorem dX0_keeps_51 : decode cX0_keeps 51 = .ok (.getfield 7, 3) := by decide +kernel
theorem dX0_keeps_54 : decode cX0_keeps 54 = .ok (.iload_n 3, 1) := by decide +kernel
theorem dX0_keeps_55 : decode cX0_keeps 55 = .ok (.baload, 1) := by decide +kernel
theorem dX0_keeps_56 : decode cX0_keeps 56 = .ok (.ifCond .ne 32, 3) := by decide +kernel
theorem dX0_keeps_59 : decode cX0_keeps 59 = .ok (.iload 4, 2) := by decide +kernel
theorem dX0_keeps_61 : decode cX0_keeps 61 = .ok (.iload 5, 2) := by decide +kernel
theorem dX0_keeps_63 : decode cX0_keeps 63 = .ok (.ifCond .eq 12, 3) := by decide +kernel
theorem dX0_keeps_66 : decode cX0_keeps 66 = .ok (.iload 6, 2) := by decide +kernel
theorem dX0_keeps_68 : decode cX0_keeps 68 = .ok (.ifCond .eq 7, 3) := by decide +kernel
theorem dX0_keeps_71 : decode cX0_keeps 71 = .ok (.iconst 1, 1) := by decide +kernel
theorem dX0_keeps_72 : decode cX0_keeps 72 = .ok (.goto 4, 3) := by decide +kernel
theorem dX0_keeps_75 : decode cX0_keeps 75 = .ok (.iconst 0, 1) := by decide +kernel
theorem dX0_keeps_76 : decode cX0_keeps 76 = .ok (.if_icmp .ne 7, 3) := by decide +kernel
theorem dX0_keeps_79 : decode cX0_keeps 79 = .ok (.iconst 1, 1) := by decide +kernel
theorem dX0_keeps_80 : decode cX0_keeps 80 = .ok (.goto 4, 3) := by decide +kernel
theorem dX0_keeps_83 : decode cX0_keeps 83 = .ok (.iconst 0, 1) := by decide +kernel
theorem dX0_keeps_84 : decode cX0_keeps 84 = .ok (.istore_n 2, 1) := by decide +kernel
theorem dX0_keeps_85 : decode cX0_keeps 85 = .ok (.goto 110, 3) := by decide +kernel
theorem dX0_keeps_88 : decode cX0_keeps 88 = .ok (.aload_n 0, 1) := by decide +kernel
theorem dX0_keeps_89 : decode cX0_keeps 89 = .ok (.getfield 7, 3) := by decide +kernel
theorem dX0_keeps_92 : decode cX0_keeps 92 = .ok (.iload_n 3, 1) := by decide +kernel
theorem dX0_keeps_93 : decode cX0_keeps 93 = .ok (.baload, 1) := by decide +kernel
theorem dX0_keeps_94 : decode cX0_keeps 94 = .ok (.iconst 1, 1) := by decide +kernel
theorem dX0_keeps_95 : decode cX0_keeps 95 = .ok (.if_icmp .ne 32, 3) := by decide +kernel
theorem dX0_keeps_98 : decode cX0_keeps 98 = .ok (.iload 4, 2) := by decide +kernel
theorem dX0_keeps_100 : decode cX0_keeps 100 = .ok (.iload 5, 2) := by decide +kernel
theorem dX0_keeps_102 : decode cX0_keeps 102 = .ok (.ifCond .ne 8, 3) := by decide +kernel
theorem dX0_keeps_105 : decode cX0_keeps 105 = .ok (.iload 6, 2) := by decide +kernel
theorem dX0_keeps_107 : decode cX0_keeps 107 = .ok (.ifCond .eq 7, 3) := by decide +kernel
theorem dX0_keeps_110 : decode cX0_keeps 110 = .ok (.iconst 1, 1) := by decide +kernel
theorem dX0_keeps_111 : decode cX0_keeps 111 = .ok (.goto 4, 3) := by decide +kernel
theorem dX0_keeps_114 : decode cX0_keeps 114 = .ok (.iconst 0, 1) := by decide +kernel
theorem dX0_keeps_115 : decode cX0_keeps 115 = .ok (.if_icmp .ne 7, 3) := by decide +kernel
theorem dX0_keeps_118 : decode cX0_keeps 118 = .ok (.iconst 1, 1) := by decide +kernel
theorem dX0_keeps_119 : decode cX0_keeps 119 = .ok (.goto 4, 3) := by decide +kernel
theorem dX0_keeps_122 : decode cX0_keeps 122 = .ok (.iconst 0, 1) := by decide +kernel
theorem dX0_keeps_123 : decode cX0_keeps 123 = .ok (.istore_n 2, 1) := by decide +kernel
theorem dX0_keeps_124 : decode cX0_keeps 124 = .ok (.goto 71, 3) := by decide +kernel
theorem dX0_keeps_127 : decode cX0_keeps 127 = .ok (.aload_n 0, 1) := by decide +kernel
theorem dX0_keeps_128 : decode cX0_keeps 128 = .ok (.getfield 7, 3) := by decide +kernel
theorem dX0_keeps_131 : decode cX0_keeps 131 = .ok (.iload_n 3, 1) := by decide +kernel
theorem dX0_keeps_132 : decode cX0_keeps 132 = .ok (.baload, 1) := by decide +kernel
theorem dX0_keeps_133 : decode cX0_keeps 133 = .ok (.iconst 2, 1) := by decide +kernel
theorem dX0_keeps_134 : decode cX0_keeps 134 = .ok (.if_icmp .ne 40, 3) := by decide +kernel
theorem dX0_keeps_137 : decode cX0_keeps 137 = .ok (.iload 4, 2) := by decide +kernel
theorem dX0_keeps_139 : decode cX0_keeps 139 = .ok (.ifCond .eq 21, 3) := by decide +kernel
theorem dX0_keeps_142 : decode cX0_keeps 142 = .ok (.iload 5, 2) := by decide +kernel
theorem dX0_keeps_144 : decode cX0_keeps 144 = .ok (.ifCond .eq 8, 3) := by decide +kernel
theorem dX0_keeps_147 : decode cX0_keeps 147 = .ok (.iload 6, 2) := by decide +kernel
theorem dX0_keeps_149 : decode cX0_keeps 149 = .ok (.ifCond .eq 7, 3) := by decide +kernel
theorem dX0_keeps_152 : decode cX0_keeps 152 = .ok (.iconst 1, 1) := by decide +kernel
theorem dX0_keeps_153 : decode cX0_keeps 153 = .ok (.goto 17, 3) := by decide +kernel
theorem dX0_keeps_156 : decode cX0_keeps 156 = .ok (.iconst 0, 1) := by decide +kernel
theorem dX0_keeps_157 : decode cX0_keeps 157 = .ok (.goto 13, 3) := by decide +kernel
theorem dX0_keeps_160 : decode cX0_keeps 160 = .ok (.iload 6, 2) := by decide +kernel
theorem dX0_keeps_162 : decode cX0_keeps 162 = .ok (.ifCond .ne 7, 3) := by decide +kernel
theorem dX0_keeps_165 : decode cX0_keeps 165 = .ok (.iconst 1, 1) := by decide +kernel
theorem dX0_keeps_166 : decode cX0_keeps 166 = .ok (.goto 4, 3) := by decide +kernel
theorem dX0_keeps_169 : decode cX0_keeps 169 = .ok (.iconst 0, 1) := by decide +kernel
theorem dX0_keeps_170 : decode cX0_keeps 170 = .ok (.istore_n 2, 1) := by decide +kernel
theorem dX0_keeps_171 : decode cX0_keeps 171 = .ok (.goto 24, 3) := by decide +kernel
theorem dX0_keeps_174 : decode cX0_keeps 174 = .ok (.aload_n 0, 1) := by decide +kernel
theorem dX0_keeps_175 : decode cX0_keeps 175 = .ok (.getfield 7, 3) := by decide +kernel
theorem dX0_keeps_178 : decode cX0_keeps 178 = .ok (.iload_n 3, 1) := by decide +kernel
theorem dX0_keeps_179 : decode cX0_keeps 179 = .ok (.baload, 1) := by decide +kernel
theorem dX0_keeps_180 : decode cX0_keeps 180 = .ok (.iconst 4, 1) := by decide +kernel
theorem dX0_keeps_181 : decode cX0_keeps 181 = .ok (.if_icmp .ne 14, 3) := by decide +kernel
theorem dX0_keeps_184 : decode cX0_keeps 184 = .ok (.iload 4, 2) := by decide +kernel
theorem dX0_keeps_186 : decode cX0_keeps 186 = .ok (.ifCond .ne 7, 3) := by decide +kernel
theorem dX0_keeps_189 : decode cX0_keeps 189 = .ok (.iconst 1, 1) := by decide +kernel
theorem dX0_keeps_190 : decode cX0_keeps 190 = .ok (.goto 4, 3) := by decide +kernel
theorem dX0_keeps_193 : decode cX0_keeps 193 = .ok (.iconst 0, 1) := by decide +kernel
theorem dX0_keeps_194 : decode cX0_keeps 194 = .ok (.istore_n 2, 1) := by decide +kernel
theorem dX0_keeps_195 : decode cX0_keeps 195 = .ok (.iinc 3 1, 3) := by decide +kernel
theorem dX0_keeps_198 : decode cX0_keeps 198 = .ok (.goto (-194), 3) := by decide +kernel
theorem dX0_keeps_201 : decode cX0_keeps 201 = .ok (.iload_n 2, 1) := by decide +kernel
theorem dX0_keeps_202 : decode cX0_keeps 202 = .ok (.ireturn, 1) := by decide +kernel
theorem dX0_in_0 : decode cX0_in 0 = .ok (.iload_n 1, 1) := by decide +kernel
theorem dX0_in_1 : decode cX0_in 1 = .ok (.iload_n 2, 1) := by decide +kernel
theorem dX0_in_2 : decode cX0_in 2 = .ok (.ishr, 1) := by decide +kernel
theorem dX0_in_3 : decode cX0_in 3 = .ok (.iconst 1, 1) := by decide +kernel
theorem dX0_in_4 : decode cX0_in 4 = .ok (.iand, 1) := by decide +kernel
theorem dX0_in_5 : decode cX0_in 5 = .ok (.iconst 1, 1) := by decide +kernel
theorem dX0_in_6 : decode cX0_in 6 = .ok (.if_icmp .ne 7, 3) := by decide +kernel
theorem dX0_in_9 : decode cX0_in 9 = .ok (.iconst 1, 1) := by decide +kernel
theorem dX0_in_10 : decode cX0_in 10 = .ok (.goto 4, 3) := by decide +kernel
theorem dX0_in_13 : decode cX0_in 13 = .ok (.iconst 0, 1) := by decide +kernel
theorem dX0_in_14 : decode cX0_in 14 = .ok (.ireturn, 1) := by decide +kernel
theorem dX0_parts_0 : decode cX0_parts 0 = .ok (.aload_n 0, 1) := by decide +kernel
theorem dX0_parts_1 : decode cX0_parts 1 = .ok (.iload_n 1, 1) := by decide +kernel
theorem dX0_parts_2 : decode cX0_parts 2 = .ok (.iload_n 2, 1) := by decide +kernel
theorem dX0_parts_3 : decode cX0_parts 3 = .ok (.invokevirtual 42, 3) := by decide +kernel
theorem dX0_parts_6 : decode cX0_parts 6 = .ok (.ifCond .eq 14, 3) := by decide +kernel
theorem dX0_parts_9 : decode cX0_parts 9 = .ok (.aload_n 0, 1) := by decide +kernel
theorem dX0_parts_10 : decode cX0_parts 10 = .ok (.iload_n 1, 1) := by decide +kernel
theorem dX0_parts_11 : decode cX0_parts 11 = .ok (.iload_n 3, 1) := by decide +kernel
theorem dX0_parts_12 : decode cX0_parts 12 = .ok (.invokevirtual 42, 3) := by decide +kernel
theorem dX0_parts_15 : decode cX0_parts 15 = .ok (.ifCond .ne 5, 3) := by decide +kernel
theorem dX0_parts_18 : decode cX0_parts 18 = .ok (.iconst 1, 1) := by decide +kernel
theorem dX0_parts_19 : decode cX0_parts 19 = .ok (.ireturn, 1) := by decide +kernel
theorem dX0_parts_20 : decode cX0_parts 20 = .ok (.iconst 0, 1) := by decide +kernel
theorem dX0_parts_21 : decode cX0_parts 21 = .ok (.istore 4, 2) := by decide +kernel
theorem dX0_parts_23 : decode cX0_parts 23 = .ok (.iload 4, 2) := by decide +kernel
theorem dX0_parts_25 : decode cX0_parts 25 = .ok (.aload_n 0, 1) := by decide +kernel
theorem dX0_parts_26 : decode cX0_parts 26 = .ok (.getfield 46, 3) := by decide +kernel
theorem dX0_parts_29 : decode cX0_parts 29 = .ok (.if_icmp .ge 49, 3) := by decide +kernel
theorem dX0_parts_32 : decode cX0_parts 32 = .ok (.aload_n 0, 1) := by decide +kernel
theorem dX0_parts_33 : decode cX0_parts 33 = .ok (.getfield 19, 3) := by decide +kernel
theorem dX0_parts_36 : decode cX0_parts 36 = .ok (.iload 4, 2) := by decide +kernel
theorem dX0_parts_38 : decode cX0_parts 38 = .ok (.saload, 1) := by decide +kernel
theorem dX0_parts_39 : decode cX0_parts 39 = .ok (.istore 5, 2) := by decide +kernel
theorem dX0_parts_41 : decode cX0_parts 41 = .ok (.iload_n 1, 1) := by decide +kernel
theorem dX0_parts_42 : decode cX0_parts 42 = .ok (.iload 5, 2) := by decide +kernel
theorem dX0_parts_44 : decode cX0_parts 44 = .ok (.iconst (-1), 1) := by decide +kernel
theorem dX0_parts_45 : decode cX0_parts 45 = .ok (.ixor, 1) := by decide +kernel
theorem dX0_parts_46 : decode cX0_parts 46 = .ok (.iand, 1) := by decide +kernel
theorem dX0_parts_47 : decode cX0_parts 47 = .ok (.ifCond .ne 25, 3) := by decide +kernel
theorem dX0_parts_50 : decode cX0_parts 50 = .ok (.aload_n 0, 1) := by decide +kernel
theorem dX0_parts_51 : decode cX0_parts 51 = .ok (.iload 5, 2) := by decide +kernel
theorem dX0_parts_53 : decode cX0_parts 53 = .ok (.iload_n 2, 1) := by decide +kernel
theorem dX0_parts_54 : decode cX0_parts 54 = .ok (.invokevirtual 42, 3) := by decide +kernel
theorem dX0_parts_57 : decode cX0_parts 57 = .ok (.ifCond .eq 15, 3) := by decide +kernel
theorem dX0_parts_60 : decode cX0_parts 60 = .ok (.aload_n 0, 1) := by decide +kernel
theorem dX0_parts_61 : decode cX0_parts 61 = .ok (.iload 5, 2) := by decide +kernel
theorem dX0_parts_63 : decode cX0_parts 63 = .ok (.iload_n 3, 1) := by decide +kernel
theorem dX0_parts_64 : decode cX0_parts 64 = .ok (.invokevirtual 42, 3) := by decide +kernel
theorem dX0_parts_67 : decode cX0_parts 67 = .ok (.ifCond .ne 5, 3) := by decide +kernel
theorem dX0_parts_70 : decode cX0_parts 70 = .ok (.iconst 1, 1) := by decide +kernel
theorem dX0_parts_71 : decode cX0_parts 71 = .ok (.ireturn, 1) := by decide +kernel
theorem dX0_parts_72 : decode cX0_parts 72 = .ok (.iinc 4 1, 3) := by decide +kernel
theorem dX0_parts_75 : decode cX0_parts 75 = .ok (.goto (-52), 3) := by decide +kernel
theorem dX0_parts_78 : decode cX0_parts 78 = .ok (.iconst 0, 1) := by decide +kernel
theorem dX0_parts_79 : decode cX0_parts 79 = .ok (.ireturn, 1) := by decide +kernel
theorem dX0_closure_0 : decode cX0_closure 0 = .ok (.aload_n 0, 1) := by decide +kernel
theorem dX0_closure_1 : decode cX0_closure 1 = .ok (.invokevirtual 56, 3) := by decide +kernel
theorem dX0_closure_4 : decode cX0_closure 4 = .ok (.istore_n 2, 1) := by decide +kernel
theorem dX0_closure_5 : decode cX0_closure 5 = .ok (.iconst 0, 1) := by decide +kernel
theorem dX0_closure_6 : decode cX0_closure 6 = .ok (.istore_n 3, 1) := by decide +kernel
theorem dX0_closure_7 : decode cX0_closure 7 = .ok (.iload_n 3, 1) := by decide +kernel
theorem dX0_closure_8 : decode cX0_closure 8 = .ok (.aload_n 0, 1) := by decide +kernel
theorem dX0_closure_9 : decode cX0_closure 9 = .ok (.getfield 46, 3) := by decide +kernel
theorem dX0_closure_12 : decode cX0_closure 12 = .ok (.if_icmp .ge 31, 3) := by decide +kernel
theorem dX0_closure_15 : decode cX0_closure 15 = .ok (.iload_n 1, 1) := by decide +kernel
theorem dX0_closure_16 : decode cX0_closure 16 = .ok (.aload_n 0, 1) := by decide +kernel
theorem dX0_closure_17 : decode cX0_closure 17 = .ok (.getfield 19, 3) := by decide +kernel
theorem dX0_closure_20 : decode cX0_closure 20 = .ok (.iload_n 3, 1) := by decide +kernel
theorem dX0_closure_21 : decode cX0_closure 21 = .ok (.saload, 1) := by decide +kernel
theorem dX0_closure_22 : decode cX0_closure 22 = .ok (.iconst (-1), 1) := by decide +kernel
theorem dX0_closure_23 : decode cX0_closure 23 = .ok (.ixor, 1) := by decide +kernel
theorem dX0_closure_24 : decode cX0_closure 24 = .ok (.iand, 1) := by decide +kernel
theorem dX0_closure_25 : decode cX0_closure 25 = .ok (.ifCond .ne 12, 3) := by decide +kernel
theorem dX0_closure_28 : decode cX0_closure 28 = .ok (.iload_n 2, 1) := by decide +kernel
theorem dX0_closure_29 : decode cX0_closure 29 = .ok (.aload_n 0, 1) := by decide +kernel
theorem dX0_closure_30 : decode cX0_closure 30 = .ok (.getfield 19, 3) := by decide +kernel
theorem dX0_closure_33 : decode cX0_closure 33 = .ok (.iload_n 3, 1) := by decide +kernel
theorem dX0_closure_34 : decode cX0_closure 34 = .ok (.saload, 1) := by decide +kernel
theorem dX0_closure_35 : decode cX0_closure 35 = .ok (.iand, 1) := by decide +kernel
theorem dX0_closure_36 : decode cX0_closure 36 = .ok (.istore_n 2, 1) := by decide +kernel
theorem dX0_closure_37 : decode cX0_closure 37 = .ok (.iinc 3 1, 3) := by decide +kernel
theorem dX0_closure_40 : decode cX0_closure 40 = .ok (.goto (-33), 3) := by decide +kernel
theorem dX0_closure_43 : decode cX0_closure 43 = .ok (.iload_n 2, 1) := by decide +kernel
theorem dX0_closure_44 : decode cX0_closure 44 = .ok (.ireturn, 1) := by decide +kernel
theorem dX0_all_0 : decode cX0_all 0 = .ok (.aload_n 0, 1) := by decide +kernel
theorem dX0_all_1 : decode cX0_all 1 = .ok (.invokevirtual 63, 3) := by decide +kernel
theorem dX0_all_4 : decode cX0_all 4 = .ok (.iload_n 1, 1) := by decide +kernel
theorem dX0_all_5 : decode cX0_all 5 = .ok (.aload_n 0, 1) := by decide +kernel
theorem dX0_all_6 : decode cX0_all 6 = .ok (.invokevirtual 56, 3) := by decide +kernel
end
section
set_option maxRecDepth 100000
theorem dX0_all_9 : decode cX0_all 9 = .ok (.iand, 1) := by decide +kernel
theorem dX0_all_10 : decode cX0_all 10 = .ok (.istore_n 2, 1) := by decide +kernel
theorem dX0_all_11 : decode cX0_all 11 = .ok (.aload_n 0, 1) := by decide +kernel
theorem dX0_all_12 : decode cX0_all 12 = .ok (.iload_n 2, 1) := by decide +kernel
theorem dX0_all_13 : decode cX0_all 13 = .ok (.invokevirtual 66, 3) := by decide +kernel
theorem dX0_all_16 : decode cX0_all 16 = .ok (.ireturn, 1) := by decide +kernel
theorem dX0_classically_0 : decode cX0_classically 0 = .ok (.aload_n 0, 1) := by decide +kernel
theorem dX0_classically_1 : decode cX0_classically 1 = .ok (.iload_n 2, 1) := by decide +kernel
theorem dX0_classically_2 : decode cX0_classically 2 = .ok (.invokevirtual 38, 3) := by decide +kernel
theorem dX0_classically_5 : decode cX0_classically 5 = .ok (.ifCond .eq 5, 3) := by decide +kernel
theorem dX0_classically_8 : decode cX0_classically 8 = .ok (.iconst (-1), 1) := by decide +kernel
theorem dX0_classically_9 : decode cX0_classically 9 = .ok (.ireturn, 1) := by decide +kernel
theorem dX0_classically_10 : decode cX0_classically 10 = .ok (.iload_n 1, 1) := by decide +kernel
theorem dX0_classically_11 : decode cX0_classically 11 = .ok (.aload_n 0, 1) := by decide +kernel
theorem dX0_classically_12 : decode cX0_classically 12 = .ok (.invokevirtual 56, 3) := by decide +kernel
theorem dX0_classically_15 : decode cX0_classically 15 = .ok (.iand, 1) := by decide +kernel
theorem dX0_classically_16 : decode cX0_classically 16 = .ok (.istore_n 3, 1) := by decide +kernel
theorem dX0_classically_17 : decode cX0_classically 17 = .ok (.iconst 1, 1) := by decide +kernel
theorem dX0_classically_18 : decode cX0_classically 18 = .ok (.istore 4, 2) := by decide +kernel
theorem dX0_classically_20 : decode cX0_classically 20 = .ok (.iconst 0, 1) := by decide +kernel
theorem dX0_classically_21 : decode cX0_classically 21 = .ok (.istore 5, 2) := by decide +kernel
theorem dX0_classically_23 : decode cX0_classically 23 = .ok (.iload 5, 2) := by decide +kernel
theorem dX0_classically_25 : decode cX0_classically 25 = .ok (.bipush 16, 2) := by decide +kernel
theorem dX0_classically_27 : decode cX0_classically 27 = .ok (.if_icmp .ge 48, 3) := by decide +kernel
theorem dX0_classically_30 : decode cX0_classically 30 = .ok (.aload_n 0, 1) := by decide +kernel
theorem dX0_classically_31 : decode cX0_classically 31 = .ok (.iload 5, 2) := by decide +kernel
theorem dX0_classically_33 : decode cX0_classically 33 = .ok (.invokevirtual 70, 3) := by decide +kernel
theorem dX0_classically_36 : decode cX0_classically 36 = .ok (.istore 6, 2) := by decide +kernel
theorem dX0_classically_38 : decode cX0_classically 38 = .ok (.iload 4, 2) := by decide +kernel
theorem dX0_classically_40 : decode cX0_classically 40 = .ok (.ifCond .eq 26, 3) := by decide +kernel
theorem dX0_classically_43 : decode cX0_classically 43 = .ok (.iload_n 3, 1) := by decide +kernel
theorem dX0_classically_44 : decode cX0_classically 44 = .ok (.iload 6, 2) := by decide +kernel
theorem dX0_classically_46 : decode cX0_classically 46 = .ok (.iconst (-1), 1) := by decide +kernel
theorem dX0_classically_47 : decode cX0_classically 47 = .ok (.ixor, 1) := by decide +kernel
theorem dX0_classically_48 : decode cX0_classically 48 = .ok (.iand, 1) := by decide +kernel
theorem dX0_classically_49 : decode cX0_classically 49 = .ok (.ifCond .ne 13, 3) := by decide +kernel
theorem dX0_classically_52 : decode cX0_classically 52 = .ok (.aload_n 0, 1) := by decide +kernel
theorem dX0_classically_53 : decode cX0_classically 53 = .ok (.iload 6, 2) := by decide +kernel
theorem dX0_classically_55 : decode cX0_classically 55 = .ok (.iload_n 2, 1) := by decide +kernel
theorem dX0_classically_56 : decode cX0_classically 56 = .ok (.invokevirtual 42, 3) := by decide +kernel
theorem dX0_classically_59 : decode cX0_classically 59 = .ok (.ifCond .eq 7, 3) := by decide +kernel
theorem dX0_classically_62 : decode cX0_classically 62 = .ok (.iconst 1, 1) := by decide +kernel
theorem dX0_classically_63 : decode cX0_classically 63 = .ok (.goto 4, 3) := by decide +kernel
theorem dX0_classically_66 : decode cX0_classically 66 = .ok (.iconst 0, 1) := by decide +kernel
theorem dX0_classically_67 : decode cX0_classically 67 = .ok (.istore 4, 2) := by decide +kernel
theorem dX0_classically_69 : decode cX0_classically 69 = .ok (.iinc 5 1, 3) := by decide +kernel
theorem dX0_classically_72 : decode cX0_classically 72 = .ok (.goto (-49), 3) := by decide +kernel
theorem dX0_classically_75 : decode cX0_classically 75 = .ok (.iload 4, 2) := by decide +kernel
theorem dX0_classically_77 : decode cX0_classically 77 = .ok (.ifCond .eq 7, 3) := by decide +kernel
theorem dX0_classically_80 : decode cX0_classically 80 = .ok (.iconst 1, 1) := by decide +kernel
theorem dX0_classically_81 : decode cX0_classically 81 = .ok (.goto 4, 3) := by decide +kernel
theorem dX0_classically_84 : decode cX0_classically 84 = .ok (.iconst 0, 1) := by decide +kernel
theorem dX0_classically_85 : decode cX0_classically 85 = .ok (.ireturn, 1) := by decide +kernel
theorem dX0_trueFor_0 : decode cX0_trueFor 0 = .ok (.iconst 0, 1) := by decide +kernel
theorem dX0_trueFor_1 : decode cX0_trueFor 1 = .ok (.istore_n 2, 1) := by decide +kernel
theorem dX0_trueFor_2 : decode cX0_trueFor 2 = .ok (.iconst 0, 1) := by decide +kernel
theorem dX0_trueFor_3 : decode cX0_trueFor 3 = .ok (.istore_n 3, 1) := by decide +kernel
theorem dX0_trueFor_4 : decode cX0_trueFor 4 = .ok (.iload_n 3, 1) := by decide +kernel
theorem dX0_trueFor_5 : decode cX0_trueFor 5 = .ok (.aload_n 0, 1) := by decide +kernel
theorem dX0_trueFor_6 : decode cX0_trueFor 6 = .ok (.getfield 26, 3) := by decide +kernel
theorem dX0_trueFor_9 : decode cX0_trueFor 9 = .ok (.if_icmp .ge 165, 3) := by decide +kernel
theorem dX0_trueFor_12 : decode cX0_trueFor 12 = .ok (.aload_n 0, 1) := by decide +kernel
theorem dX0_trueFor_13 : decode cX0_trueFor 13 = .ok (.iload_n 2, 1) := by decide +kernel
theorem dX0_trueFor_14 : decode cX0_trueFor 14 = .ok (.aload_n 0, 1) := by decide +kernel
theorem dX0_trueFor_15 : decode cX0_trueFor 15 = .ok (.getfield 13, 3) := by decide +kernel
theorem dX0_trueFor_18 : decode cX0_trueFor 18 = .ok (.iload_n 3, 1) := by decide +kernel
theorem dX0_trueFor_19 : decode cX0_trueFor 19 = .ok (.baload, 1) := by decide +kernel
theorem dX0_trueFor_20 : decode cX0_trueFor 20 = .ok (.invokevirtual 42, 3) := by decide +kernel
theorem dX0_trueFor_23 : decode cX0_trueFor 23 = .ok (.istore 4, 2) := by decide +kernel
theorem dX0_trueFor_25 : decode cX0_trueFor 25 = .ok (.aload_n 0, 1) := by decide +kernel
theorem dX0_trueFor_26 : decode cX0_trueFor 26 = .ok (.iload_n 2, 1) := by decide +kernel
theorem dX0_trueFor_27 : decode cX0_trueFor 27 = .ok (.aload_n 0, 1) := by decide +kernel
theorem dX0_trueFor_28 : decode cX0_trueFor 28 = .ok (.getfield 16, 3) := by decide +kernel
theorem dX0_trueFor_31 : decode cX0_trueFor 31 = .ok (.iload_n 3, 1) := by decide +kernel
theorem dX0_trueFor_32 : decode cX0_trueFor 32 = .ok (.baload, 1) := by decide +kernel
theorem dX0_trueFor_33 : decode cX0_trueFor 33 = .ok (.invokevirtual 42, 3) := by decide +kernel
theorem dX0_trueFor_36 : decode cX0_trueFor 36 = .ok (.istore 5, 2) := by decide +kernel
theorem dX0_trueFor_38 : decode cX0_trueFor 38 = .ok (.iconst 0, 1) := by decide +kernel
theorem dX0_trueFor_39 : decode cX0_trueFor 39 = .ok (.istore 6, 2) := by decide +kernel
theorem dX0_trueFor_41 : decode cX0_trueFor 41 = .ok (.aload_n 0, 1) := by decide +kernel
theorem dX0_trueFor_42 : decode cX0_trueFor 42 = .ok (.getfield 7, 3) := by decide +kernel
theorem dX0_trueFor_45 : decode cX0_trueFor 45 = .ok (.iload_n 3, 1) := by decide +kernel
theorem dX0_trueFor_46 : decode cX0_trueFor 46 = .ok (.baload, 1) := by decide +kernel
theorem dX0_trueFor_47 : decode cX0_trueFor 47 = .ok (.iconst 3, 1) := by decide +kernel
theorem dX0_trueFor_48 : decode cX0_trueFor 48 = .ok (.if_icmp .ne 19, 3) := by decide +kernel
theorem dX0_trueFor_51 : decode cX0_trueFor 51 = .ok (.aload_n 0, 1) := by decide +kernel
theorem dX0_trueFor_52 : decode cX0_trueFor 52 = .ok (.iload_n 1, 1) := by decide +kernel
theorem dX0_trueFor_53 : decode cX0_trueFor 53 = .ok (.aload_n 0, 1) := by decide +kernel
theorem dX0_trueFor_54 : decode cX0_trueFor 54 = .ok (.getfield 13, 3) := by decide +kernel
theorem dX0_trueFor_57 : decode cX0_trueFor 57 = .ok (.iload_n 3, 1) := by decide +kernel
theorem dX0_trueFor_58 : decode cX0_trueFor 58 = .ok (.baload, 1) := by decide +kernel
theorem dX0_trueFor_59 : decode cX0_trueFor 59 = .ok (.invokevirtual 42, 3) := by decide +kernel
theorem dX0_trueFor_62 : decode cX0_trueFor 62 = .ok (.istore 6, 2) := by decide +kernel
theorem dX0_trueFor_64 : decode cX0_trueFor 64 = .ok (.goto 89, 3) := by decide +kernel
theorem dX0_trueFor_67 : decode cX0_trueFor 67 = .ok (.aload_n 0, 1) := by decide +kernel
theorem dX0_trueFor_68 : decode cX0_trueFor 68 = .ok (.getfield 7, 3) := by decide +kernel
theorem dX0_trueFor_71 : decode cX0_trueFor 71 = .ok (.iload_n 3, 1) := by decide +kernel
theorem dX0_trueFor_72 : decode cX0_trueFor 72 = .ok (.baload, 1) := by decide +kernel
theorem dX0_trueFor_73 : decode cX0_trueFor 73 = .ok (.ifCond .ne 23, 3) := by decide +kernel
theorem dX0_trueFor_76 : decode cX0_trueFor 76 = .ok (.iload 4, 2) := by decide +kernel
theorem dX0_trueFor_78 : decode cX0_trueFor 78 = .ok (.ifCond .eq 12, 3) := by decide +kernel
theorem dX0_trueFor_81 : decode cX0_trueFor 81 = .ok (.iload 5, 2) := by decide +kernel
theorem dX0_trueFor_83 : decode cX0_trueFor 83 = .ok (.ifCond .eq 7, 3) := by decide +kernel
theorem dX0_trueFor_86 : decode cX0_trueFor 86 = .ok (.iconst 1, 1) := by decide +kernel
theorem dX0_trueFor_87 : decode cX0_trueFor 87 = .ok (.goto 4, 3) := by decide +kernel
theorem dX0_trueFor_90 : decode cX0_trueFor 90 = .ok (.iconst 0, 1) := by decide +kernel
theorem dX0_trueFor_91 : decode cX0_trueFor 91 = .ok (.istore 6, 2) := by decide +kernel
theorem dX0_trueFor_93 : decode cX0_trueFor 93 = .ok (.goto 60, 3) := by decide +kernel
theorem dX0_trueFor_96 : decode cX0_trueFor 96 = .ok (.aload_n 0, 1) := by decide +kernel
theorem dX0_trueFor_97 : decode cX0_trueFor 97 = .ok (.getfield 7, 3) := by decide +kernel
theorem dX0_trueFor_100 : decode cX0_trueFor 100 = .ok (.iload_n 3, 1) := by decide +kernel
theorem dX0_trueFor_101 : decode cX0_trueFor 101 = .ok (.baload, 1) := by decide +kernel
theorem dX0_trueFor_102 : decode cX0_trueFor 102 = .ok (.iconst 1, 1) := by decide +kernel
theorem dX0_trueFor_103 : decode cX0_trueFor 103 = .ok (.if_icmp .ne 23, 3) := by decide +kernel
theorem dX0_trueFor_106 : decode cX0_trueFor 106 = .ok (.iload 4, 2) := by decide +kernel
theorem dX0_trueFor_108 : decode cX0_trueFor 108 = .ok (.ifCond .ne 8, 3) := by decide +kernel
theorem dX0_trueFor_111 : decode cX0_trueFor 111 = .ok (.iload 5, 2) := by decide +kernel
theorem dX0_trueFor_113 : decode cX0_trueFor 113 = .ok (.ifCond .eq 7, 3) := by decide +kernel
theorem dX0_trueFor_116 : decode cX0_trueFor 116 = .ok (.iconst 1, 1) := by decide +kernel
theorem dX0_trueFor_117 : decode cX0_trueFor 117 = .ok (.goto 4, 3) := by decide +kernel
theorem dX0_trueFor_120 : decode cX0_trueFor 120 = .ok (.iconst 0, 1) := by decide +kernel
theorem dX0_trueFor_121 : decode cX0_trueFor 121 = .ok (.istore 6, 2) := by decide +kernel
theorem dX0_trueFor_123 : decode cX0_trueFor 123 = .ok (.goto 30, 3) := by decide +kernel
theorem dX0_trueFor_126 : decode cX0_trueFor 126 = .ok (.aload_n 0, 1) := by decide +kernel
theorem dX0_trueFor_127 : decode cX0_trueFor 127 = .ok (.getfield 7, 3) := by decide +kernel
theorem dX0_trueFor_130 : decode cX0_trueFor 130 = .ok (.iload_n 3, 1) := by decide +kernel
theorem dX0_trueFor_131 : decode cX0_trueFor 131 = .ok (.baload, 1) := by decide +kernel
theorem dX0_trueFor_132 : decode cX0_trueFor 132 = .ok (.iconst 2, 1) := by decide +kernel
theorem dX0_trueFor_133 : decode cX0_trueFor 133 = .ok (.if_icmp .ne 20, 3) := by decide +kernel
theorem dX0_trueFor_136 : decode cX0_trueFor 136 = .ok (.iload 4, 2) := by decide +kernel
theorem dX0_trueFor_138 : decode cX0_trueFor 138 = .ok (.ifCond .eq 8, 3) := by decide +kernel
theorem dX0_trueFor_141 : decode cX0_trueFor 141 = .ok (.iload 5, 2) := by decide +kernel
theorem dX0_trueFor_143 : decode cX0_trueFor 143 = .ok (.ifCond .eq 7, 3) := by decide +kernel
theorem dX0_trueFor_146 : decode cX0_trueFor 146 = .ok (.iconst 1, 1) := by decide +kernel
theorem dX0_trueFor_147 : decode cX0_trueFor 147 = .ok (.goto 4, 3) := by decide +kernel
theorem dX0_trueFor_150 : decode cX0_trueFor 150 = .ok (.iconst 0, 1) := by decide +kernel
theorem dX0_trueFor_151 : decode cX0_trueFor 151 = .ok (.istore 6, 2) := by decide +kernel
theorem dX0_trueFor_153 : decode cX0_trueFor 153 = .ok (.iload 6, 2) := by decide +kernel
theorem dX0_trueFor_155 : decode cX0_trueFor 155 = .ok (.ifCond .eq 11, 3) := by decide +kernel
theorem dX0_trueFor_158 : decode cX0_trueFor 158 = .ok (.iload_n 2, 1) := by decide +kernel
theorem dX0_trueFor_159 : decode cX0_trueFor 159 = .ok (.iconst 1, 1) := by decide +kernel
theorem dX0_trueFor_160 : decode cX0_trueFor 160 = .ok (.iload_n 3, 1) := by decide +kernel
theorem dX0_trueFor_161 : decode cX0_trueFor 161 = .ok (.ishl, 1) := by decide +kernel
theorem dX0_trueFor_162 : decode cX0_trueFor 162 = .ok (.ior, 1) := by decide +kernel
theorem dX0_trueFor_163 : decode cX0_trueFor 163 = .ok (.goto 4, 3) := by decide +kernel
theorem dX0_trueFor_166 : decode cX0_trueFor 166 = .ok (.iload_n 2, 1) := by decide +kernel
theorem dX0_trueFor_167 : decode cX0_trueFor 167 = .ok (.istore_n 2, 1) := by decide +kernel
theorem dX0_trueFor_168 : decode cX0_trueFor 168 = .ok (.iinc 3 1, 3) := by decide +kernel
theorem dX0_trueFor_171 : decode cX0_trueFor 171 = .ok (.goto (-167), 3) := by decide +kernel
theorem dX0_trueFor_174 : decode cX0_trueFor 174 = .ok (.iload_n 2, 1) := by decide +kernel
theorem dX0_trueFor_175 : decode cX0_trueFor 175 = .ok (.ireturn, 1) := by decide +kernel
theorem dX0_alike_0 : decode cX0_alike 0 = .ok (.aload_n 0, 1) := by decide +kernel
theorem dX0_alike_1 : decode cX0_alike 1 = .ok (.iload_n 1, 1) := by decide +kernel
theorem dX0_alike_2 : decode cX0_alike 2 = .ok (.invokevirtual 38, 3) := by decide +kernel
theorem dX0_alike_5 : decode cX0_alike 5 = .ok (.ifCond .ne 11, 3) := by decide +kernel
theorem dX0_alike_8 : decode cX0_alike 8 = .ok (.aload_n 0, 1) := by decide +kernel
theorem dX0_alike_9 : decode cX0_alike 9 = .ok (.iload_n 2, 1) := by decide +kernel
theorem dX0_alike_10 : decode cX0_alike 10 = .ok (.invokevirtual 38, 3) := by decide +kernel
theorem dX0_alike_13 : decode cX0_alike 13 = .ok (.ifCond .eq 5, 3) := by decide +kernel
theorem dX0_alike_16 : decode cX0_alike 16 = .ok (.iconst (-1), 1) := by decide +kernel
theorem dX0_alike_17 : decode cX0_alike 17 = .ok (.ireturn, 1) := by decide +kernel
theorem dX0_alike_18 : decode cX0_alike 18 = .ok (.aload_n 0, 1) := by decide +kernel
theorem dX0_alike_19 : decode cX0_alike 19 = .ok (.invokevirtual 63, 3) := by decide +kernel
theorem dX0_alike_22 : decode cX0_alike 22 = .ok (.iconst 1, 1) := by decide +kernel
theorem dX0_alike_23 : decode cX0_alike 23 = .ok (.istore_n 3, 1) := by decide +kernel
theorem dX0_alike_24 : decode cX0_alike 24 = .ok (.iconst 0, 1) := by decide +kernel
theorem dX0_alike_25 : decode cX0_alike 25 = .ok (.istore 4, 2) := by decide +kernel
theorem dX0_alike_27 : decode cX0_alike 27 = .ok (.iload 4, 2) := by decide +kernel
theorem dX0_alike_29 : decode cX0_alike 29 = .ok (.aload_n 0, 1) := by decide +kernel
theorem dX0_alike_30 : decode cX0_alike 30 = .ok (.getfield 46, 3) := by decide +kernel
theorem dX0_alike_33 : decode cX0_alike 33 = .ok (.if_icmp .ge 46, 3) := by decide +kernel
theorem dX0_alike_36 : decode cX0_alike 36 = .ok (.iload_n 3, 1) := by decide +kernel
theorem dX0_alike_37 : decode cX0_alike 37 = .ok (.ifCond .eq 34, 3) := by decide +kernel
theorem dX0_alike_40 : decode cX0_alike 40 = .ok (.aload_n 0, 1) := by decide +kernel
theorem dX0_alike_41 : decode cX0_alike 41 = .ok (.aload_n 0, 1) := by decide +kernel
theorem dX0_alike_42 : decode cX0_alike 42 = .ok (.getfield 19, 3) := by decide +kernel
theorem dX0_alike_45 : decode cX0_alike 45 = .ok (.iload 4, 2) := by decide +kernel
theorem dX0_alike_47 : decode cX0_alike 47 = .ok (.saload, 1) := by decide +kernel
theorem dX0_alike_48 : decode cX0_alike 48 = .ok (.iload_n 1, 1) := by decide +kernel
theorem dX0_alike_49 : decode cX0_alike 49 = .ok (.invokevirtual 42, 3) := by decide +kernel
theorem dX0_alike_52 : decode cX0_alike 52 = .ok (.aload_n 0, 1) := by decide +kernel
theorem dX0_alike_53 : decode cX0_alike 53 = .ok (.aload_n 0, 1) := by decide +kernel
theorem dX0_alike_54 : decode cX0_alike 54 = .ok (.getfield 19, 3) := by decide +kernel
theorem dX0_alike_57 : decode cX0_alike 57 = .ok (.iload 4, 2) := by decide +kernel
theorem dX0_alike_59 : decode cX0_alike 59 = .ok (.saload, 1) := by decide +kernel
theorem dX0_alike_60 : decode cX0_alike 60 = .ok (.iload_n 2, 1) := by decide +kernel
theorem dX0_alike_61 : decode cX0_alike 61 = .ok (.invokevirtual 42, 3) := by decide +kernel
theorem dX0_alike_64 : decode cX0_alike 64 = .ok (.if_icmp .ne 7, 3) := by decide +kernel
theorem dX0_alike_67 : decode cX0_alike 67 = .ok (.iconst 1, 1) := by decide +kernel
theorem dX0_alike_68 : decode cX0_alike 68 = .ok (.goto 4, 3) := by decide +kernel
theorem dX0_alike_71 : decode cX0_alike 71 = .ok (.iconst 0, 1) := by decide +kernel
theorem dX0_alike_72 : decode cX0_alike 72 = .ok (.istore_n 3, 1) := by decide +kernel
theorem dX0_alike_73 : decode cX0_alike 73 = .ok (.iinc 4 1, 3) := by decide +kernel
theorem dX0_alike_76 : decode cX0_alike 76 = .ok (.goto (-49), 3) := by decide +kernel
theorem dX0_alike_79 : decode cX0_alike 79 = .ok (.iload_n 3, 1) := by decide +kernel
theorem dX0_alike_80 : decode cX0_alike 80 = .ok (.ifCond .eq 7, 3) := by decide +kernel
theorem dX0_alike_83 : decode cX0_alike 83 = .ok (.iconst 1, 1) := by decide +kernel
theorem dX0_alike_84 : decode cX0_alike 84 = .ok (.goto 4, 3) := by decide +kernel
theorem dX0_alike_87 : decode cX0_alike 87 = .ok (.iconst 0, 1) := by decide +kernel
theorem dX0_alike_88 : decode cX0_alike 88 = .ok (.ireturn, 1) := by decide +kernel
theorem dX0_enough_0 : decode cX0_enough 0 = .ok (.aload_n 0, 1) := by decide +kernel
theorem dX0_enough_1 : decode cX0_enough 1 = .ok (.iload_n 2, 1) := by decide +kernel
theorem dX0_enough_2 : decode cX0_enough 2 = .ok (.invokevirtual 38, 3) := by decide +kernel
theorem dX0_enough_5 : decode cX0_enough 5 = .ok (.ifCond .eq 5, 3) := by decide +kernel
theorem dX0_enough_8 : decode cX0_enough 8 = .ok (.iconst (-1), 1) := by decide +kernel
theorem dX0_enough_9 : decode cX0_enough 9 = .ok (.ireturn, 1) := by decide +kernel
theorem dX0_enough_10 : decode cX0_enough 10 = .ok (.aload_n 0, 1) := by decide +kernel
theorem dX0_enough_11 : decode cX0_enough 11 = .ok (.invokevirtual 63, 3) := by decide +kernel
theorem dX0_enough_14 : decode cX0_enough 14 = .ok (.iload_n 1, 1) := by decide +kernel
theorem dX0_enough_15 : decode cX0_enough 15 = .ok (.aload_n 0, 1) := by decide +kernel
theorem dX0_enough_16 : decode cX0_enough 16 = .ok (.invokevirtual 56, 3) := by decide +kernel
theorem dX0_enough_19 : decode cX0_enough 19 = .ok (.iand, 1) := by decide +kernel
theorem dX0_enough_20 : decode cX0_enough 20 = .ok (.istore_n 3, 1) := by decide +kernel
theorem dX0_enough_21 : decode cX0_enough 21 = .ok (.aload_n 0, 1) := by decide +kernel
theorem dX0_enough_22 : decode cX0_enough 22 = .ok (.iload_n 3, 1) := by decide +kernel
theorem dX0_enough_23 : decode cX0_enough 23 = .ok (.iload_n 2, 1) := by decide +kernel
theorem dX0_enough_24 : decode cX0_enough 24 = .ok (.invokevirtual 76, 3) := by decide +kernel
theorem dX0_enough_27 : decode cX0_enough 27 = .ok (.istore 4, 2) := by decide +kernel
theorem dX0_enough_29 : decode cX0_enough 29 = .ok (.iload 4, 2) := by decide +kernel
theorem dX0_enough_31 : decode cX0_enough 31 = .ok (.ifCond .ne 6, 3) := by decide +kernel
theorem dX0_enough_34 : decode cX0_enough 34 = .ok (.bipush (-4), 2) := by decide +kernel
theorem dX0_enough_36 : decode cX0_enough 36 = .ok (.ireturn, 1) := by decide +kernel
theorem dX0_enough_37 : decode cX0_enough 37 = .ok (.aload_n 0, 1) := by decide +kernel
theorem dX0_enough_38 : decode cX0_enough 38 = .ok (.iload_n 3, 1) := by decide +kernel
theorem dX0_enough_39 : decode cX0_enough 39 = .ok (.invokevirtual 79, 3) := by decide +kernel
theorem dX0_enough_42 : decode cX0_enough 42 = .ok (.istore 5, 2) := by decide +kernel
theorem dX0_enough_44 : decode cX0_enough 44 = .ok (.iload_n 3, 1) := by decide +kernel
theorem dX0_enough_45 : decode cX0_enough 45 = .ok (.istore 6, 2) := by decide +kernel
theorem dX0_enough_47 : decode cX0_enough 47 = .ok (.iload 6, 2) := by decide +kernel
theorem dX0_enough_49 : decode cX0_enough 49 = .ok (.ifCond .le 51, 3) := by decide +kernel
theorem dX0_enough_52 : decode cX0_enough 52 = .ok (.aload_n 0, 1) := by decide +kernel
theorem dX0_enough_53 : decode cX0_enough 53 = .ok (.iload 6, 2) := by decide +kernel
theorem dX0_enough_55 : decode cX0_enough 55 = .ok (.invokevirtual 79, 3) := by decide +kernel
theorem dX0_enough_58 : decode cX0_enough 58 = .ok (.istore 7, 2) := by decide +kernel
theorem dX0_enough_60 : decode cX0_enough 60 = .ok (.iload 7, 2) := by decide +kernel
theorem dX0_enough_62 : decode cX0_enough 62 = .ok (.iload 5, 2) := by decide +kernel
theorem dX0_enough_64 : decode cX0_enough 64 = .ok (.if_icmp .ge 25, 3) := by decide +kernel
theorem dX0_enough_67 : decode cX0_enough 67 = .ok (.aload_n 0, 1) := by decide +kernel
theorem dX0_enough_68 : decode cX0_enough 68 = .ok (.iload 6, 2) := by decide +kernel
theorem dX0_enough_70 : decode cX0_enough 70 = .ok (.invokevirtual 82, 3) := by decide +kernel
theorem dX0_enough_73 : decode cX0_enough 73 = .ok (.istore 8, 2) := by decide +kernel
theorem dX0_enough_75 : decode cX0_enough 75 = .ok (.iload 8, 2) := by decide +kernel
theorem dX0_enough_77 : decode cX0_enough 77 = .ok (.ifCond .eq 8, 3) := by decide +kernel
theorem dX0_enough_80 : decode cX0_enough 80 = .ok (.iload 7, 2) := by decide +kernel
theorem dX0_enough_82 : decode cX0_enough 82 = .ok (.goto 5, 3) := by decide +kernel
theorem dX0_enough_85 : decode cX0_enough 85 = .ok (.iload 5, 2) := by decide +kernel
theorem dX0_enough_87 : decode cX0_enough 87 = .ok (.istore 5, 2) := by decide +kernel
theorem dX0_enough_89 : decode cX0_enough 89 = .ok (.iload 6, 2) := by decide +kernel
theorem dX0_enough_91 : decode cX0_enough 91 = .ok (.iconst 1, 1) := by decide +kernel
theorem dX0_enough_92 : decode cX0_enough 92 = .ok (.isub, 1) := by decide +kernel
theorem dX0_enough_93 : decode cX0_enough 93 = .ok (.iload_n 3, 1) := by decide +kernel
theorem dX0_enough_94 : decode cX0_enough 94 = .ok (.iand, 1) := by decide +kernel
theorem dX0_enough_95 : decode cX0_enough 95 = .ok (.istore 6, 2) := by decide +kernel
theorem dX0_enough_97 : decode cX0_enough 97 = .ok (.goto (-50), 3) := by decide +kernel
theorem dX0_enough_100 : decode cX0_enough 100 = .ok (.aload_n 0, 1) := by decide +kernel
theorem dX0_enough_101 : decode cX0_enough 101 = .ok (.getfield 73, 3) := by decide +kernel
theorem dX0_enough_104 : decode cX0_enough 104 = .ok (.ifCond .ne 7, 3) := by decide +kernel
theorem dX0_enough_107 : decode cX0_enough 107 = .ok (.iconst 0, 1) := by decide +kernel
theorem dX0_enough_108 : decode cX0_enough 108 = .ok (.goto 5, 3) := by decide +kernel
theorem dX0_enough_111 : decode cX0_enough 111 = .ok (.iload 5, 2) := by decide +kernel
theorem dX0_enough_113 : decode cX0_enough 113 = .ok (.ireturn, 1) := by decide +kernel
theorem dX0_gather_0 : decode cX0_gather 0 = .ok (.aload_n 0, 1) := by decide +kernel
theorem dX0_gather_1 : decode cX0_gather 1 = .ok (.iconst 0, 1) := by decide +kernel
theorem dX0_gather_2 : decode cX0_gather 2 = .ok (.putfield 73, 3) := by decide +kernel
theorem dX0_gather_5 : decode cX0_gather 5 = .ok (.iconst 1, 1) := by decide +kernel
theorem dX0_gather_6 : decode cX0_gather 6 = .ok (.istore_n 3, 1) := by decide +kernel
theorem dX0_gather_7 : decode cX0_gather 7 = .ok (.iconst 0, 1) := by decide +kernel
theorem dX0_gather_8 : decode cX0_gather 8 = .ok (.istore 4, 2) := by decide +kernel
theorem dX0_gather_10 : decode cX0_gather 10 = .ok (.iload 4, 2) := by decide +kernel
theorem dX0_gather_12 : decode cX0_gather 12 = .ok (.aload_n 0, 1) := by decide +kernel
theorem dX0_gather_13 : decode cX0_gather 13 = .ok (.getfield 46, 3) := by decide +kernel
theorem dX0_gather_16 : decode cX0_gather 16 = .ok (.if_icmp .ge 77, 3) := by decide +kernel
theorem dX0_gather_19 : decode cX0_gather 19 = .ok (.aload_n 0, 1) := by decide +kernel
theorem dX0_gather_20 : decode cX0_gather 20 = .ok (.aload_n 0, 1) := by decide +kernel
theorem dX0_gather_21 : decode cX0_gather 21 = .ok (.getfield 19, 3) := by decide +kernel
theorem dX0_gather_24 : decode cX0_gather 24 = .ok (.iload 4, 2) := by decide +kernel
theorem dX0_gather_26 : decode cX0_gather 26 = .ok (.saload, 1) := by decide +kernel
theorem dX0_gather_27 : decode cX0_gather 27 = .ok (.iload_n 2, 1) := by decide +kernel
theorem dX0_gather_28 : decode cX0_gather 28 = .ok (.invokevirtual 42, 3) := by decide +kernel
theorem dX0_gather_31 : decode cX0_gather 31 = .ok (.ifCond .ne 56, 3) := by decide +kernel
theorem dX0_gather_34 : decode cX0_gather 34 = .ok (.aload_n 0, 1) := by decide +kernel
theorem dX0_gather_35 : decode cX0_gather 35 = .ok (.getfield 23, 3) := by decide +kernel
theorem dX0_gather_38 : decode cX0_gather 38 = .ok (.aload_n 0, 1) := by decide +kernel
theorem dX0_gather_39 : decode cX0_gather 39 = .ok (.getfield 73, 3) := by decide +kernel
theorem dX0_gather_42 : decode cX0_gather 42 = .ok (.iload_n 1, 1) := by decide +kernel
theorem dX0_gather_43 : decode cX0_gather 43 = .ok (.aload_n 0, 1) := by decide +kernel
theorem dX0_gather_44 : decode cX0_gather 44 = .ok (.getfield 19, 3) := by decide +kernel
theorem dX0_gather_47 : decode cX0_gather 47 = .ok (.iload 4, 2) := by decide +kernel
theorem dX0_gather_49 : decode cX0_gather 49 = .ok (.saload, 1) := by decide +kernel
theorem dX0_gather_50 : decode cX0_gather 50 = .ok (.iconst (-1), 1) := by decide +kernel
theorem dX0_gather_51 : decode cX0_gather 51 = .ok (.ixor, 1) := by decide +kernel
theorem dX0_gather_52 : decode cX0_gather 52 = .ok (.iand, 1) := by decide +kernel
theorem dX0_gather_53 : decode cX0_gather 53 = .ok (.i2s, 1) := by decide +kernel
theorem dX0_gather_54 : decode cX0_gather 54 = .ok (.sastore, 1) := by decide +kernel
theorem dX0_gather_55 : decode cX0_gather 55 = .ok (.iload_n 3, 1) := by decide +kernel
theorem dX0_gather_56 : decode cX0_gather 56 = .ok (.ifCond .eq 19, 3) := by decide +kernel
theorem dX0_gather_59 : decode cX0_gather 59 = .ok (.aload_n 0, 1) := by decide +kernel
theorem dX0_gather_60 : decode cX0_gather 60 = .ok (.getfield 23, 3) := by decide +kernel
theorem dX0_gather_63 : decode cX0_gather 63 = .ok (.aload_n 0, 1) := by decide +kernel
theorem dX0_gather_64 : decode cX0_gather 64 = .ok (.getfield 73, 3) := by decide +kernel
theorem dX0_gather_67 : decode cX0_gather 67 = .ok (.saload, 1) := by decide +kernel
theorem dX0_gather_68 : decode cX0_gather 68 = .ok (.ifCond .eq 7, 3) := by decide +kernel
theorem dX0_gather_71 : decode cX0_gather 71 = .ok (.iconst 1, 1) := by decide +kernel
theorem dX0_gather_72 : decode cX0_gather 72 = .ok (.goto 4, 3) := by decide +kernel
theorem dX0_gather_75 : decode cX0_gather 75 = .ok (.iconst 0, 1) := by decide +kernel
theorem dX0_gather_76 : decode cX0_gather 76 = .ok (.istore_n 3, 1) := by decide +kernel
theorem dX0_gather_77 : decode cX0_gather 77 = .ok (.aload_n 0, 1) := by decide +kernel
theorem dX0_gather_78 : decode cX0_gather 78 = .ok (.dup, 1) := by decide +kernel
theorem dX0_gather_79 : decode cX0_gather 79 = .ok (.getfield 73, 3) := by decide +kernel
theorem dX0_gather_82 : decode cX0_gather 82 = .ok (.iconst 1, 1) := by decide +kernel
theorem dX0_gather_83 : decode cX0_gather 83 = .ok (.iadd, 1) := by decide +kernel
theorem dX0_gather_84 : decode cX0_gather 84 = .ok (.putfield 73, 3) := by decide +kernel
theorem dX0_gather_87 : decode cX0_gather 87 = .ok (.iinc 4 1, 3) := by decide +kernel
theorem dX0_gather_90 : decode cX0_gather 90 = .ok (.goto (-80), 3) := by decide +kernel
theorem dX0_gather_93 : decode cX0_gather 93 = .ok (.iload_n 3, 1) := by decide +kernel
theorem dX0_gather_94 : decode cX0_gather 94 = .ok (.ireturn, 1) := by decide +kernel
theorem dX0_sizeOf_0 : decode cX0_sizeOf 0 = .ok (.iconst 0, 1) := by decide +kernel
theorem dX0_sizeOf_1 : decode cX0_sizeOf 1 = .ok (.istore_n 2, 1) := by decide +kernel
theorem dX0_sizeOf_2 : decode cX0_sizeOf 2 = .ok (.iconst 0, 1) := by decide +kernel
theorem dX0_sizeOf_3 : decode cX0_sizeOf 3 = .ok (.istore_n 3, 1) := by decide +kernel
theorem dX0_sizeOf_4 : decode cX0_sizeOf 4 = .ok (.iload_n 3, 1) := by decide +kernel
theorem dX0_sizeOf_5 : decode cX0_sizeOf 5 = .ok (.aload_n 0, 1) := by decide +kernel
theorem dX0_sizeOf_6 : decode cX0_sizeOf 6 = .ok (.getfield 26, 3) := by decide +kernel
theorem dX0_sizeOf_9 : decode cX0_sizeOf 9 = .ok (.if_icmp .ge 17, 3) := by decide +kernel
theorem dX0_sizeOf_12 : decode cX0_sizeOf 12 = .ok (.iload_n 2, 1) := by decide +kernel
theorem dX0_sizeOf_13 : decode cX0_sizeOf 13 = .ok (.iload_n 1, 1) := by decide +kernel
theorem dX0_sizeOf_14 : decode cX0_sizeOf 14 = .ok (.iload_n 3, 1) := by decide +kernel
theorem dX0_sizeOf_15 : decode cX0_sizeOf 15 = .ok (.ishr, 1) := by decide +kernel
theorem dX0_sizeOf_16 : decode cX0_sizeOf 16 = .ok (.iconst 1, 1) := by decide +kernel
theorem dX0_sizeOf_17 : decode cX0_sizeOf 17 = .ok (.iand, 1) := by decide +kernel
theorem dX0_sizeOf_18 : decode cX0_sizeOf 18 = .ok (.iadd, 1) := by decide +kernel
theorem dX0_sizeOf_19 : decode cX0_sizeOf 19 = .ok (.istore_n 2, 1) := by decide +kernel
theorem dX0_sizeOf_20 : decode cX0_sizeOf 20 = .ok (.iinc 3 1, 3) := by decide +kernel
theorem dX0_sizeOf_23 : decode cX0_sizeOf 23 = .ok (.goto (-19), 3) := by decide +kernel
theorem dX0_sizeOf_26 : decode cX0_sizeOf 26 = .ok (.iload_n 2, 1) := by decide +kernel
theorem dX0_sizeOf_27 : decode cX0_sizeOf 27 = .ok (.ireturn, 1) := by decide +kernel
theorem dX0_meetsAll_0 : decode cX0_meetsAll 0 = .ok (.iconst 1, 1) := by decide +kernel
theorem dX0_meetsAll_1 : decode cX0_meetsAll 1 = .ok (.istore_n 2, 1) := by decide +kernel
theorem dX0_meetsAll_2 : decode cX0_meetsAll 2 = .ok (.iconst 0, 1) := by decide +kernel
theorem dX0_meetsAll_3 : decode cX0_meetsAll 3 = .ok (.istore_n 3, 1) := by decide +kernel
theorem dX0_meetsAll_4 : decode cX0_meetsAll 4 = .ok (.iload_n 3, 1) := by decide +kernel
theorem dX0_meetsAll_5 : decode cX0_meetsAll 5 = .ok (.aload_n 0, 1) := by decide +kernel
theorem dX0_meetsAll_6 : decode cX0_meetsAll 6 = .ok (.getfield 73, 3) := by decide +kernel
theorem dX0_meetsAll_9 : decode cX0_meetsAll 9 = .ok (.if_icmp .ge 30, 3) := by decide +kernel
theorem dX0_meetsAll_12 : decode cX0_meetsAll 12 = .ok (.iload_n 2, 1) := by decide +kernel
theorem dX0_meetsAll_13 : decode cX0_meetsAll 13 = .ok (.ifCond .eq 26, 3) := by decide +kernel
theorem dX0_meetsAll_16 : decode cX0_meetsAll 16 = .ok (.aload_n 0, 1) := by decide +kernel
theorem dX0_meetsAll_17 : decode cX0_meetsAll 17 = .ok (.getfield 23, 3) := by decide +kernel
theorem dX0_meetsAll_20 : decode cX0_meetsAll 20 = .ok (.iload_n 3, 1) := by decide +kernel
theorem dX0_meetsAll_21 : decode cX0_meetsAll 21 = .ok (.saload, 1) := by decide +kernel
theorem dX0_meetsAll_22 : decode cX0_meetsAll 22 = .ok (.iload_n 1, 1) := by decide +kernel
theorem dX0_meetsAll_23 : decode cX0_meetsAll 23 = .ok (.iand, 1) := by decide +kernel
theorem dX0_meetsAll_24 : decode cX0_meetsAll 24 = .ok (.ifCond .eq 7, 3) := by decide +kernel
theorem dX0_meetsAll_27 : decode cX0_meetsAll 27 = .ok (.iconst 1, 1) := by decide +kernel
theorem dX0_meetsAll_28 : decode cX0_meetsAll 28 = .ok (.goto 4, 3) := by decide +kernel
theorem dX0_meetsAll_31 : decode cX0_meetsAll 31 = .ok (.iconst 0, 1) := by decide +kernel
theorem dX0_meetsAll_32 : decode cX0_meetsAll 32 = .ok (.istore_n 2, 1) := by decide +kernel
theorem dX0_meetsAll_33 : decode cX0_meetsAll 33 = .ok (.iinc 3 1, 3) := by decide +kernel
theorem dX0_meetsAll_36 : decode cX0_meetsAll 36 = .ok (.goto (-32), 3) := by decide +kernel
theorem dX0_meetsAll_39 : decode cX0_meetsAll 39 = .ok (.iload_n 2, 1) := by decide +kernel
theorem dX0_meetsAll_40 : decode cX0_meetsAll 40 = .ok (.ireturn, 1) := by decide +kernel
theorem dX0_saturated_0 : decode cX0_saturated 0 = .ok (.aload_n 0, 1) := by decide +kernel
theorem dX0_saturated_1 : decode cX0_saturated 1 = .ok (.invokevirtual 63, 3) := by decide +kernel
theorem dX0_saturated_4 : decode cX0_saturated 4 = .ok (.iload_n 1, 1) := by decide +kernel
theorem dX0_saturated_5 : decode cX0_saturated 5 = .ok (.aload_n 0, 1) := by decide +kernel
theorem dX0_saturated_6 : decode cX0_saturated 6 = .ok (.invokevirtual 56, 3) := by decide +kernel
theorem dX0_saturated_9 : decode cX0_saturated 9 = .ok (.iand, 1) := by decide +kernel
theorem dX0_saturated_10 : decode cX0_saturated 10 = .ok (.istore_n 2, 1) := by decide +kernel
theorem dX0_saturated_11 : decode cX0_saturated 11 = .ok (.iconst 0, 1) := by decide +kernel
theorem dX0_saturated_12 : decode cX0_saturated 12 = .ok (.istore_n 3, 1) := by decide +kernel
theorem dX0_saturated_13 : decode cX0_saturated 13 = .ok (.iconst 0, 1) := by decide +kernel
theorem dX0_saturated_14 : decode cX0_saturated 14 = .ok (.istore 4, 2) := by decide +kernel
theorem dX0_saturated_16 : decode cX0_saturated 16 = .ok (.iload 4, 2) := by decide +kernel
theorem dX0_saturated_18 : decode cX0_saturated 18 = .ok (.aload_n 0, 1) := by decide +kernel
theorem dX0_saturated_19 : decode cX0_saturated 19 = .ok (.getfield 46, 3) := by decide +kernel
theorem dX0_saturated_22 : decode cX0_saturated 22 = .ok (.if_icmp .ge 26, 3) := by decide +kernel
theorem dX0_saturated_25 : decode cX0_saturated 25 = .ok (.aload_n 0, 1) := by decide +kernel
theorem dX0_saturated_26 : decode cX0_saturated 26 = .ok (.getfield 19, 3) := by decide +kernel
theorem dX0_saturated_29 : decode cX0_saturated 29 = .ok (.iload 4, 2) := by decide +kernel
theorem dX0_saturated_31 : decode cX0_saturated 31 = .ok (.saload, 1) := by decide +kernel
theorem dX0_saturated_32 : decode cX0_saturated 32 = .ok (.iload_n 2, 1) := by decide +kernel
theorem dX0_saturated_33 : decode cX0_saturated 33 = .ok (.if_icmp .ne 7, 3) := by decide +kernel
theorem dX0_saturated_36 : decode cX0_saturated 36 = .ok (.iconst 1, 1) := by decide +kernel
theorem dX0_saturated_37 : decode cX0_saturated 37 = .ok (.goto 4, 3) := by decide +kernel
theorem dX0_saturated_40 : decode cX0_saturated 40 = .ok (.iload_n 3, 1) := by decide +kernel
theorem dX0_saturated_41 : decode cX0_saturated 41 = .ok (.istore_n 3, 1) := by decide +kernel
theorem dX0_saturated_42 : decode cX0_saturated 42 = .ok (.iinc 4 1, 3) := by decide +kernel
theorem dX0_saturated_45 : decode cX0_saturated 45 = .ok (.goto (-29), 3) := by decide +kernel
theorem dX0_saturated_48 : decode cX0_saturated 48 = .ok (.iload_n 3, 1) := by decide +kernel
theorem dX0_saturated_49 : decode cX0_saturated 49 = .ok (.ireturn, 1) := by decide +kernel
theorem dX0_worlds_0 : decode cX0_worlds 0 = .ok (.aload_n 0, 1) := by decide +kernel
theorem dX0_worlds_1 : decode cX0_worlds 1 = .ok (.invokevirtual 63, 3) := by decide +kernel
theorem dX0_worlds_4 : decode cX0_worlds 4 = .ok (.aload_n 0, 1) := by decide +kernel
theorem dX0_worlds_5 : decode cX0_worlds 5 = .ok (.getfield 46, 3) := by decide +kernel
theorem dX0_worlds_8 : decode cX0_worlds 8 = .ok (.ireturn, 1) := by decide +kernel
theorem dX0_against_0 : decode cX0_against 0 = .ok (.aload_n 0, 1) := by decide +kernel
theorem dX0_against_1 : decode cX0_against 1 = .ok (.iload_n 2, 1) := by decide +kernel
theorem dX0_against_2 : decode cX0_against 2 = .ok (.invokevirtual 38, 3) := by decide +kernel
theorem dX0_against_5 : decode cX0_against 5 = .ok (.ifCond .eq 5, 3) := by decide +kernel
theorem dX0_against_8 : decode cX0_against 8 = .ok (.iconst (-1), 1) := by decide +kernel
theorem dX0_against_9 : decode cX0_against 9 = .ok (.ireturn, 1) := by decide +kernel
theorem dX0_against_10 : decode cX0_against 10 = .ok (.aload_n 0, 1) := by decide +kernel
theorem dX0_against_11 : decode cX0_against 11 = .ok (.invokevirtual 63, 3) := by decide +kernel
theorem dX0_against_14 : decode cX0_against 14 = .ok (.iload_n 1, 1) := by decide +kernel
theorem dX0_against_15 : decode cX0_against 15 = .ok (.aload_n 0, 1) := by decide +kernel
theorem dX0_against_16 : decode cX0_against 16 = .ok (.invokevirtual 56, 3) := by decide +kernel
theorem dX0_against_19 : decode cX0_against 19 = .ok (.iand, 1) := by decide +kernel
theorem dX0_against_20 : decode cX0_against 20 = .ok (.istore_n 3, 1) := by decide +kernel
theorem dX0_against_21 : decode cX0_against 21 = .ok (.bipush (-4), 2) := by decide +kernel
theorem dX0_against_23 : decode cX0_against 23 = .ok (.istore 4, 2) := by decide +kernel
theorem dX0_against_25 : decode cX0_against 25 = .ok (.iconst 0, 1) := by decide +kernel
theorem dX0_against_26 : decode cX0_against 26 = .ok (.istore 5, 2) := by decide +kernel
theorem dX0_against_28 : decode cX0_against 28 = .ok (.iload 5, 2) := by decide +kernel
theorem dX0_against_30 : decode cX0_against 30 = .ok (.aload_n 0, 1) := by decide +kernel
theorem dX0_against_31 : decode cX0_against 31 = .ok (.getfield 46, 3) := by decide +kernel
theorem dX0_against_34 : decode cX0_against 34 = .ok (.if_icmp .ge 52, 3) := by decide +kernel
theorem dX0_against_37 : decode cX0_against 37 = .ok (.iload_n 3, 1) := by decide +kernel
theorem dX0_against_38 : decode cX0_against 38 = .ok (.aload_n 0, 1) := by decide +kernel
theorem dX0_against_39 : decode cX0_against 39 = .ok (.getfield 19, 3) := by decide +kernel
theorem dX0_against_42 : decode cX0_against 42 = .ok (.iload 5, 2) := by decide +kernel
theorem dX0_against_44 : decode cX0_against 44 = .ok (.saload, 1) := by decide +kernel
theorem dX0_against_45 : decode cX0_against 45 = .ok (.iconst (-1), 1) := by decide +kernel
theorem dX0_against_46 : decode cX0_against 46 = .ok (.ixor, 1) := by decide +kernel
theorem dX0_against_47 : decode cX0_against 47 = .ok (.iand, 1) := by decide +kernel
theorem dX0_against_48 : decode cX0_against 48 = .ok (.ifCond .ne 28, 3) := by decide +kernel
theorem dX0_against_51 : decode cX0_against 51 = .ok (.aload_n 0, 1) := by decide +kernel
theorem dX0_against_52 : decode cX0_against 52 = .ok (.aload_n 0, 1) := by decide +kernel
theorem dX0_against_53 : decode cX0_against 53 = .ok (.getfield 19, 3) := by decide +kernel
theorem dX0_against_56 : decode cX0_against 56 = .ok (.iload 5, 2) := by decide +kernel
theorem dX0_against_58 : decode cX0_against 58 = .ok (.saload, 1) := by decide +kernel
theorem dX0_against_59 : decode cX0_against 59 = .ok (.iload_n 2, 1) := by decide +kernel
theorem dX0_against_60 : decode cX0_against 60 = .ok (.invokevirtual 42, 3) := by decide +kernel
theorem dX0_against_63 : decode cX0_against 63 = .ok (.ifCond .ne 13, 3) := by decide +kernel
theorem dX0_against_66 : decode cX0_against 66 = .ok (.aload_n 0, 1) := by decide +kernel
theorem dX0_against_67 : decode cX0_against 67 = .ok (.getfield 19, 3) := by decide +kernel
theorem dX0_against_70 : decode cX0_against 70 = .ok (.iload 5, 2) := by decide +kernel
theorem dX0_against_72 : decode cX0_against 72 = .ok (.saload, 1) := by decide +kernel
theorem dX0_against_73 : decode cX0_against 73 = .ok (.goto 5, 3) := by decide +kernel
theorem dX0_against_76 : decode cX0_against 76 = .ok (.iload 4, 2) := by decide +kernel
theorem dX0_against_78 : decode cX0_against 78 = .ok (.istore 4, 2) := by decide +kernel
theorem dX0_against_80 : decode cX0_against 80 = .ok (.iinc 5 1, 3) := by decide +kernel
theorem dX0_against_83 : decode cX0_against 83 = .ok (.goto (-55), 3) := by decide +kernel
theorem dX0_against_86 : decode cX0_against 86 = .ok (.iload 4, 2) := by decide +kernel
theorem dX0_against_88 : decode cX0_against 88 = .ok (.ireturn, 1) := by decide +kernel
theorem dX0_closedSets_0 : decode cX0_closedSets 0 = .ok (.aload_n 0, 1) := by decide +kernel
theorem dX0_closedSets_1 : decode cX0_closedSets 1 = .ok (.invokevirtual 63, 3) := by decide +kernel
theorem dX0_closedSets_4 : decode cX0_closedSets 4 = .ok (.iconst 0, 1) := by decide +kernel
theorem dX0_closedSets_5 : decode cX0_closedSets 5 = .ok (.istore_n 1, 1) := by decide +kernel
theorem dX0_closedSets_6 : decode cX0_closedSets 6 = .ok (.iconst 0, 1) := by decide +kernel
theorem dX0_closedSets_7 : decode cX0_closedSets 7 = .ok (.istore_n 2, 1) := by decide +kernel
theorem dX0_closedSets_8 : decode cX0_closedSets 8 = .ok (.iload_n 2, 1) := by decide +kernel
theorem dX0_closedSets_9 : decode cX0_closedSets 9 = .ok (.aload_n 0, 1) := by decide +kernel
theorem dX0_closedSets_10 : decode cX0_closedSets 10 = .ok (.invokevirtual 56, 3) := by decide +kernel
theorem dX0_closedSets_13 : decode cX0_closedSets 13 = .ok (.if_icmp .gt 28, 3) := by decide +kernel
theorem dX0_closedSets_16 : decode cX0_closedSets 16 = .ok (.aload_n 0, 1) := by decide +kernel
theorem dX0_closedSets_17 : decode cX0_closedSets 17 = .ok (.iload_n 2, 1) := by decide +kernel
theorem dX0_closedSets_18 : decode cX0_closedSets 18 = .ok (.invokevirtual 66, 3) := by decide +kernel
theorem dX0_closedSets_21 : decode cX0_closedSets 21 = .ok (.istore_n 3, 1) := by decide +kernel
theorem dX0_closedSets_22 : decode cX0_closedSets 22 = .ok (.iload_n 3, 1) := by decide +kernel
theorem dX0_closedSets_23 : decode cX0_closedSets 23 = .ok (.iload_n 2, 1) := by decide +kernel
theorem dX0_closedSets_24 : decode cX0_closedSets 24 = .ok (.if_icmp .ne 9, 3) := by decide +kernel
theorem dX0_closedSets_27 : decode cX0_closedSets 27 = .ok (.iload_n 1, 1) := by decide +kernel
theorem dX0_closedSets_28 : decode cX0_closedSets 28 = .ok (.iconst 1, 1) := by decide +kernel
theorem dX0_closedSets_29 : decode cX0_closedSets 29 = .ok (.iadd, 1) := by decide +kernel
theorem dX0_closedSets_30 : decode cX0_closedSets 30 = .ok (.goto 4, 3) := by decide +kernel
theorem dX0_closedSets_33 : decode cX0_closedSets 33 = .ok (.iload_n 1, 1) := by decide +kernel
theorem dX0_closedSets_34 : decode cX0_closedSets 34 = .ok (.istore_n 1, 1) := by decide +kernel
theorem dX0_closedSets_35 : decode cX0_closedSets 35 = .ok (.iinc 2 1, 3) := by decide +kernel
theorem dX0_closedSets_38 : decode cX0_closedSets 38 = .ok (.goto (-30), 3) := by decide +kernel
theorem dX0_closedSets_41 : decode cX0_closedSets 41 = .ok (.iload_n 1, 1) := by decide +kernel
theorem dX0_closedSets_42 : decode cX0_closedSets 42 = .ok (.ireturn, 1) := by decide +kernel
end
section
set_option maxRecDepth 100000
theorem dX1_init_0 : decode cX1_init 0 = .ok (.aload_n 0, 1) := by decide +kernel
theorem dX1_init_1 : decode cX1_init 1 = .ok (.invokespecial 1, 3) := by decide +kernel
theorem dX1_init_4 : decode cX1_init 4 = .ok (.aload_n 0, 1) := by decide +kernel
theorem dX1_init_5 : decode cX1_init 5 = .ok (.bipush 11, 2) := by decide +kernel
theorem dX1_init_7 : decode cX1_init 7 = .ok (.newarray .int, 2) := by decide +kernel
theorem dX1_init_9 : decode cX1_init 9 = .ok (.putfield 7, 3) := by decide +kernel
theorem dX1_init_12 : decode cX1_init 12 = .ok (.aload_n 0, 1) := by decide +kernel
theorem dX1_init_13 : decode cX1_init 13 = .ok (.bipush 11, 2) := by decide +kernel
theorem dX1_init_15 : decode cX1_init 15 = .ok (.newarray .int, 2) := by decide +kernel
theorem dX1_init_17 : decode cX1_init 17 = .ok (.putfield 13, 3) := by decide +kernel
theorem dX1_init_20 : decode cX1_init 20 = .ok (.aload_n 0, 1) := by decide +kernel
theorem dX1_init_21 : decode cX1_init 21 = .ok (.bipush 11, 2) := by decide +kernel
theorem dX1_init_23 : decode cX1_init 23 = .ok (.newarray .int, 2) := by decide +kernel
theorem dX1_init_25 : decode cX1_init 25 = .ok (.putfield 16, 3) := by decide +kernel
theorem dX1_init_28 : decode cX1_init 28 = .ok (.aload_n 0, 1) := by decide +kernel
theorem dX1_init_29 : decode cX1_init 29 = .ok (.sipush 2048, 3) := by decide +kernel
theorem dX1_init_32 : decode cX1_init 32 = .ok (.newarray .int, 2) := by decide +kernel
theorem dX1_init_34 : decode cX1_init 34 = .ok (.putfield 19, 3) := by decide +kernel
theorem dX1_init_37 : decode cX1_init 37 = .ok (.aload_n 0, 1) := by decide +kernel
theorem dX1_init_38 : decode cX1_init 38 = .ok (.bipush 11, 2) := by decide +kernel
theorem dX1_init_40 : decode cX1_init 40 = .ok (.newarray .boolean, 2) := by decide +kernel
theorem dX1_init_42 : decode cX1_init 42 = .ok (.putfield 22, 3) := by decide +kernel
theorem dX1_init_45 : decode cX1_init 45 = .ok (.return_, 1) := by decide +kernel
theorem dX1_atom_0 : decode cX1_atom 0 = .ok (.iload_n 1, 1) := by decide +kernel
theorem dX1_atom_1 : decode cX1_atom 1 = .ok (.ifCond .lt 8, 3) := by decide +kernel
theorem dX1_atom_4 : decode cX1_atom 4 = .ok (.iload_n 1, 1) := by decide +kernel
theorem dX1_atom_5 : decode cX1_atom 5 = .ok (.iconst 3, 1) := by decide +kernel
theorem dX1_atom_6 : decode cX1_atom 6 = .ok (.if_icmp .le 7, 3) := by decide +kernel
theorem dX1_atom_9 : decode cX1_atom 9 = .ok (.iconst (-1), 1) := by decide +kernel
theorem dX1_atom_10 : decode cX1_atom 10 = .ok (.goto 10, 3) := by decide +kernel
theorem dX1_atom_13 : decode cX1_atom 13 = .ok (.aload_n 0, 1) := by decide +kernel
theorem dX1_atom_14 : decode cX1_atom 14 = .ok (.iconst 3, 1) := by decide +kernel
theorem dX1_atom_15 : decode cX1_atom 15 = .ok (.iload_n 1, 1) := by decide +kernel
theorem dX1_atom_16 : decode cX1_atom 16 = .ok (.iconst 0, 1) := by decide +kernel
theorem dX1_atom_17 : decode cX1_atom 17 = .ok (.invokevirtual 38, 3) := by decide +kernel
theorem dX1_atom_20 : decode cX1_atom 20 = .ok (.ireturn, 1) := by decide +kernel
theorem dX1_put_0 : decode cX1_put 0 = .ok (.aload_n 0, 1) := by decide +kernel
theorem dX1_put_1 : decode cX1_put 1 = .ok (.iload_n 1, 1) := by decide +kernel
theorem dX1_put_2 : decode cX1_put 2 = .ok (.iload_n 2, 1) := by decide +kernel
theorem dX1_put_3 : decode cX1_put 3 = .ok (.iload_n 3, 1) := by decide +kernel
theorem dX1_put_4 : decode cX1_put 4 = .ok (.invokevirtual 30, 3) := by decide +kernel
theorem dX1_put_7 : decode cX1_put 7 = .ok (.istore 4, 2) := by decide +kernel
theorem dX1_put_9 : decode cX1_put 9 = .ok (.iload 4, 2) := by decide +kernel
theorem dX1_put_11 : decode cX1_put 11 = .ok (.ifCond .lt 6, 3) := by decide +kernel
theorem dX1_put_14 : decode cX1_put 14 = .ok (.iload 4, 2) := by decide +kernel
theorem dX1_put_16 : decode cX1_put 16 = .ok (.ireturn, 1) := by decide +kernel
theorem dX1_put_17 : decode cX1_put 17 = .ok (.aload_n 0, 1) := by decide +kernel
theorem dX1_put_18 : decode cX1_put 18 = .ok (.getfield 26, 3) := by decide +kernel
theorem dX1_put_21 : decode cX1_put 21 = .ok (.bipush 11, 2) := by decide +kernel
theorem dX1_put_23 : decode cX1_put 23 = .ok (.if_icmp .ne 6, 3) := by decide +kernel
theorem dX1_put_26 : decode cX1_put 26 = .ok (.bipush (-2), 2) := by decide +kernel
theorem dX1_put_28 : decode cX1_put 28 = .ok (.ireturn, 1) := by decide +kernel
theorem dX1_put_29 : decode cX1_put 29 = .ok (.aload_n 0, 1) := by decide +kernel
theorem dX1_put_30 : decode cX1_put 30 = .ok (.getfield 7, 3) := by decide +kernel
theorem dX1_put_33 : decode cX1_put 33 = .ok (.aload_n 0, 1) := by decide +kernel
theorem dX1_put_34 : decode cX1_put 34 = .ok (.getfield 26, 3) := by decide +kernel
theorem dX1_put_37 : decode cX1_put 37 = .ok (.iload_n 1, 1) := by decide +kernel
theorem dX1_put_38 : decode cX1_put 38 = .ok (.iastore, 1) := by decide +kernel
theorem dX1_put_39 : decode cX1_put 39 = .ok (.aload_n 0, 1) := by decide +kernel
theorem dX1_put_40 : decode cX1_put 40 = .ok (.getfield 13, 3) := by decide +kernel
theorem dX1_put_43 : decode cX1_put 43 = .ok (.aload_n 0, 1) := by decide +kernel
theorem dX1_put_44 : decode cX1_put 44 = .ok (.getfield 26, 3) := by decide +kernel
theorem dX1_put_47 : decode cX1_put 47 = .ok (.iload_n 2, 1) := by decide +kernel
theorem dX1_put_48 : decode cX1_put 48 = .ok (.iastore, 1) := by decide +kernel
theorem dX1_put_49 : decode cX1_put 49 = .ok (.aload_n 0, 1) := by decide +kernel
theorem dX1_put_50 : decode cX1_put 50 = .ok (.getfield 16, 3) := by decide +kernel
theorem dX1_put_53 : decode cX1_put 53 = .ok (.aload_n 0, 1) := by decide +kernel
theorem dX1_put_54 : decode cX1_put 54 = .ok (.getfield 26, 3) := by decide +kernel
theorem dX1_put_57 : decode cX1_put 57 = .ok (.iload_n 3, 1) := by decide +kernel
theorem dX1_put_58 : decode cX1_put 58 = .ok (.iastore, 1) := by decide +kernel
theorem dX1_put_59 : decode cX1_put 59 = .ok (.aload_n 0, 1) := by decide +kernel
theorem dX1_put_60 : decode cX1_put 60 = .ok (.dup, 1) := by decide +kernel
theorem dX1_put_61 : decode cX1_put 61 = .ok (.getfield 26, 3) := by decide +kernel
theorem dX1_put_64 : decode cX1_put 64 = .ok (.iconst 1, 1) := by decide +kernel
theorem dX1_put_65 : decode cX1_put 65 = .ok (.iadd, 1) := by decide +kernel
theorem dX1_put_66 : decode cX1_put 66 = .ok (.putfield 26, 3) := by decide +kernel
theorem dX1_put_69 : decode cX1_put 69 = .ok (.aload_n 0, 1) := by decide +kernel
theorem dX1_put_70 : decode cX1_put 70 = .ok (.iconst 0, 1) := by decide +kernel
theorem dX1_put_71 : decode cX1_put 71 = .ok (.putfield 34, 3) := by decide +kernel
theorem dX1_put_74 : decode cX1_put 74 = .ok (.aload_n 0, 1) := by decide +kernel
theorem dX1_put_75 : decode cX1_put 75 = .ok (.getfield 26, 3) := by decide +kernel
theorem dX1_put_78 : decode cX1_put 78 = .ok (.iconst 1, 1) := by decide +kernel
theorem dX1_put_79 : decode cX1_put 79 = .ok (.isub, 1) := by decide +kernel
theorem dX1_put_80 : decode cX1_put 80 = .ok (.ireturn, 1) := by decide +kernel
theorem dX1_find_0 : decode cX1_find 0 = .ok (.iconst 0, 1) := by decide +kernel
theorem dX1_find_1 : decode cX1_find 1 = .ok (.istore 4, 2) := by decide +kernel
theorem dX1_find_3 : decode cX1_find 3 = .ok (.iload 4, 2) := by decide +kernel
theorem dX1_find_5 : decode cX1_find 5 = .ok (.aload_n 0, 1) := by decide +kernel
theorem dX1_find_6 : decode cX1_find 6 = .ok (.getfield 26, 3) := by decide +kernel
theorem dX1_find_9 : decode cX1_find 9 = .ok (.if_icmp .ge 45, 3) := by decide +kernel
theorem dX1_find_12 : decode cX1_find 12 = .ok (.aload_n 0, 1) := by decide +kernel
theorem dX1_find_13 : decode cX1_find 13 = .ok (.getfield 7, 3) := by decide +kernel
theorem dX1_find_16 : decode cX1_find 16 = .ok (.iload 4, 2) := by decide +kernel
theorem dX1_find_18 : decode cX1_find 18 = .ok (.iaload, 1) := by decide +kernel
theorem dX1_find_19 : decode cX1_find 19 = .ok (.iload_n 1, 1) := by decide +kernel
theorem dX1_find_20 : decode cX1_find 20 = .ok (.if_icmp .ne 28, 3) := by decide +kernel
theorem dX1_find_23 : decode cX1_find 23 = .ok (.aload_n 0, 1) := by decide +kernel
theorem dX1_find_24 : decode cX1_find 24 = .ok (.getfield 13, 3) := by decide +kernel
theorem dX1_find_27 : decode cX1_find 27 = .ok (.iload 4, 2) := by decide +kernel
theorem dX1_find_29 : decode cX1_find 29 = .ok (.iaload, 1) := by decide +kernel
theorem dX1_find_30 : decode cX1_find 30 = .ok (.iload_n 2, 1) := by decide +kernel
theorem dX1_find_31 : decode cX1_find 31 = .ok (.if_icmp .ne 17, 3) := by decide +kernel
theorem dX1_find_34 : decode cX1_find 34 = .ok (.aload_n 0, 1) := by decide +kernel
theorem dX1_find_35 : decode cX1_find 35 = .ok (.getfield 16, 3) := by decide +kernel
theorem dX1_find_38 : decode cX1_find 38 = .ok (.iload 4, 2) := by decide +kernel
theorem dX1_find_40 : decode cX1_find 40 = .ok (.iaload, 1) := by decide +kernel
theorem dX1_find_41 : decode cX1_find 41 = .ok (.iload_n 3, 1) := by decide +kernel
theorem dX1_find_42 : decode cX1_find 42 = .ok (.if_icmp .ne 6, 3) := by decide +kernel
theorem dX1_find_45 : decode cX1_find 45 = .ok (.iload 4, 2) := by decide +kernel
theorem dX1_find_47 : decode cX1_find 47 = .ok (.ireturn, 1) := by decide +kernel
theorem dX1_find_48 : decode cX1_find 48 = .ok (.iinc 4 1, 3) := by decide +kernel
theorem dX1_find_51 : decode cX1_find 51 = .ok (.goto (-48), 3) := by decide +kernel
theorem dX1_find_54 : decode cX1_find 54 = .ok (.iconst (-1), 1) := by decide +kernel
theorem dX1_find_55 : decode cX1_find 55 = .ok (.ireturn, 1) := by decide +kernel
theorem dX1_falsum_0 : decode cX1_falsum 0 = .ok (.aload_n 0, 1) := by decide +kernel
theorem dX1_falsum_1 : decode cX1_falsum 1 = .ok (.iconst 4, 1) := by decide +kernel
theorem dX1_falsum_2 : decode cX1_falsum 2 = .ok (.iconst 0, 1) := by decide +kernel
theorem dX1_falsum_3 : decode cX1_falsum 3 = .ok (.iconst 0, 1) := by decide +kernel
theorem dX1_falsum_4 : decode cX1_falsum 4 = .ok (.invokevirtual 38, 3) := by decide +kernel
theorem dX1_falsum_7 : decode cX1_falsum 7 = .ok (.ireturn, 1) := by decide +kernel
theorem dX1_join_0 : decode cX1_join 0 = .ok (.iload_n 1, 1) := by decide +kernel
theorem dX1_join_1 : decode cX1_join 1 = .ok (.ifCond .lt 24, 3) := by decide +kernel
theorem dX1_join_4 : decode cX1_join 4 = .ok (.iload_n 1, 1) := by decide +kernel
theorem dX1_join_5 : decode cX1_join 5 = .ok (.iconst 2, 1) := by decide +kernel
theorem dX1_join_6 : decode cX1_join 6 = .ok (.if_icmp .gt 19, 3) := by decide +kernel
theorem dX1_join_9 : decode cX1_join 9 = .ok (.aload_n 0, 1) := by decide +kernel
theorem dX1_join_10 : decode cX1_join 10 = .ok (.iload_n 2, 1) := by decide +kernel
theorem dX1_join_11 : decode cX1_join 11 = .ok (.invokevirtual 41, 3) := by decide +kernel
theorem dX1_join_14 : decode cX1_join 14 = .ok (.ifCond .eq 11, 3) := by decide +kernel
theorem dX1_join_17 : decode cX1_join 17 = .ok (.aload_n 0, 1) := by decide +kernel
theorem dX1_join_18 : decode cX1_join 18 = .ok (.iload_n 3, 1) := by decide +kernel
theorem dX1_join_19 : decode cX1_join 19 = .ok (.invokevirtual 41, 3) := by decide +kernel
theorem dX1_join_22 : decode cX1_join 22 = .ok (.ifCond .ne 7, 3) := by decide +kernel
theorem dX1_join_25 : decode cX1_join 25 = .ok (.iconst (-1), 1) := by decide +kernel
theorem dX1_join_26 : decode cX1_join 26 = .ok (.goto 10, 3) := by decide +kernel
theorem dX1_join_29 : decode cX1_join 29 = .ok (.aload_n 0, 1) := by decide +kernel
theorem dX1_join_30 : decode cX1_join 30 = .ok (.iload_n 1, 1) := by decide +kernel
theorem dX1_join_31 : decode cX1_join 31 = .ok (.iload_n 2, 1) := by decide +kernel
theorem dX1_join_32 : decode cX1_join 32 = .ok (.iload_n 3, 1) := by decide +kernel
theorem dX1_join_33 : decode cX1_join 33 = .ok (.invokevirtual 38, 3) := by decide +kernel
theorem dX1_join_36 : decode cX1_join 36 = .ok (.ireturn, 1) := by decide +kernel
theorem dX1_is_0 : decode cX1_is 0 = .ok (.iload_n 1, 1) := by decide +kernel
theorem dX1_is_1 : decode cX1_is 1 = .ok (.ifCond .lt 15, 3) := by decide +kernel
theorem dX1_is_4 : decode cX1_is 4 = .ok (.iload_n 1, 1) := by decide +kernel
theorem dX1_is_5 : decode cX1_is 5 = .ok (.aload_n 0, 1) := by decide +kernel
theorem dX1_is_6 : decode cX1_is 6 = .ok (.getfield 26, 3) := by decide +kernel
theorem dX1_is_9 : decode cX1_is 9 = .ok (.if_icmp .ge 7, 3) := by decide +kernel
theorem dX1_is_12 : decode cX1_is 12 = .ok (.iconst 1, 1) := by decide +kernel
theorem dX1_is_13 : decode cX1_is 13 = .ok (.goto 4, 3) := by decide +kernel
theorem dX1_is_16 : decode cX1_is 16 = .ok (.iconst 0, 1) := by decide +kernel
theorem dX1_is_17 : decode cX1_is 17 = .ok (.ireturn, 1) := by decide +kernel
theorem dX1_drop_0 : decode cX1_drop 0 = .ok (.aload_n 0, 1) := by decide +kernel
theorem dX1_drop_1 : decode cX1_drop 1 = .ok (.getfield 26, 3) := by decide +kernel
theorem dX1_drop_4 : decode cX1_drop 4 = .ok (.ifCond .ne 6, 3) := by decide +kernel
theorem dX1_drop_7 : decode cX1_drop 7 = .ok (.bipush (-4), 2) := by decide +kernel
theorem dX1_drop_9 : decode cX1_drop 9 = .ok (.ireturn, 1) := by decide +kernel
theorem dX1_drop_10 : decode cX1_drop 10 = .ok (.aload_n 0, 1) := by decide +kernel
theorem dX1_drop_11 : decode cX1_drop 11 = .ok (.dup, 1) := by decide +kernel
theorem dX1_drop_12 : decode cX1_drop 12 = .ok (.getfield 26, 3) := by decide +kernel
theorem dX1_drop_15 : decode cX1_drop 15 = .ok (.iconst 1, 1) := by decide +kernel
theorem dX1_drop_16 : decode cX1_drop 16 = .ok (.isub, 1) := by decide +kernel
theorem dX1_drop_17 : decode cX1_drop 17 = .ok (.putfield 26, 3) := by decide +kernel
theorem dX1_drop_20 : decode cX1_drop 20 = .ok (.aload_n 0, 1) := by decide +kernel
theorem dX1_drop_21 : decode cX1_drop 21 = .ok (.iconst 0, 1) := by decide +kernel
theorem dX1_drop_22 : decode cX1_drop 22 = .ok (.putfield 34, 3) := by decide +kernel
theorem dX1_drop_25 : decode cX1_drop 25 = .ok (.aload_n 0, 1) := by decide +kernel
theorem dX1_drop_26 : decode cX1_drop 26 = .ok (.getfield 26, 3) := by decide +kernel
theorem dX1_drop_29 : decode cX1_drop 29 = .ok (.ireturn, 1) := by decide +kernel
theorem dX1_size_0 : decode cX1_size 0 = .ok (.aload_n 0, 1) := by decide +kernel
theorem dX1_size_1 : decode cX1_size 1 = .ok (.getfield 26, 3) := by decide +kernel
theorem dX1_size_4 : decode cX1_size 4 = .ok (.ireturn, 1) := by decide +kernel
theorem dX1_follows_0 : decode cX1_follows 0 = .ok (.aload_n 0, 1) := by decide +kernel
theorem dX1_follows_1 : decode cX1_follows 1 = .ok (.iload_n 2, 1) := by decide +kernel
theorem dX1_follows_2 : decode cX1_follows 2 = .ok (.invokevirtual 41, 3) := by decide +kernel
theorem dX1_follows_5 : decode cX1_follows 5 = .ok (.ifCond .ne 5, 3) := by decide +kernel
theorem dX1_follows_8 : decode cX1_follows 8 = .ok (.iconst (-1), 1) := by decide +kernel
theorem dX1_follows_9 : decode cX1_follows 9 = .ok (.ireturn, 1) := by decide +kernel
theorem dX1_follows_10 : decode cX1_follows 10 = .ok (.aload_n 0, 1) := by decide +kernel
theorem dX1_follows_11 : decode cX1_follows 11 = .ok (.iload_n 1, 1) := by decide +kernel
theorem dX1_follows_12 : decode cX1_follows 12 = .ok (.invokevirtual 58, 3) := by decide +kernel
theorem dX1_follows_15 : decode cX1_follows 15 = .ok (.istore_n 3, 1) := by decide +kernel
theorem dX1_follows_16 : decode cX1_follows 16 = .ok (.aload_n 0, 1) := by decide +kernel
theorem dX1_follows_17 : decode cX1_follows 17 = .ok (.aload_n 0, 1) := by decide +kernel
theorem dX1_follows_18 : decode cX1_follows 18 = .ok (.getfield 19, 3) := by decide +kernel
theorem dX1_follows_21 : decode cX1_follows 21 = .ok (.iload_n 3, 1) := by decide +kernel
theorem dX1_follows_22 : decode cX1_follows 22 = .ok (.iaload, 1) := by decide +kernel
theorem dX1_follows_23 : decode cX1_follows 23 = .ok (.iload_n 2, 1) := by decide +kernel
theorem dX1_follows_24 : decode cX1_follows 24 = .ok (.invokevirtual 45, 3) := by decide +kernel
theorem dX1_follows_27 : decode cX1_follows 27 = .ok (.ifCond .eq 7, 3) := by decide +kernel
theorem dX1_follows_30 : decode cX1_follows 30 = .ok (.iconst 1, 1) := by decide +kernel
theorem dX1_follows_31 : decode cX1_follows 31 = .ok (.goto 4, 3) := by decide +kernel
theorem dX1_follows_34 : decode cX1_follows 34 = .ok (.iconst 0, 1) := by decide +kernel
theorem dX1_follows_35 : decode cX1_follows 35 = .ok (.ireturn, 1) := by decide +kernel
theorem dX1_taken_0 : decode cX1_taken 0 = .ok (.aload_n 0, 1) := by decide +kernel
theorem dX1_taken_1 : decode cX1_taken 1 = .ok (.invokevirtual 55, 3) := by decide +kernel
theorem dX1_taken_4 : decode cX1_taken 4 = .ok (.iload_n 1, 1) := by decide +kernel
theorem dX1_taken_5 : decode cX1_taken 5 = .ok (.iconst 1, 1) := by decide +kernel
theorem dX1_taken_6 : decode cX1_taken 6 = .ok (.aload_n 0, 1) := by decide +kernel
theorem dX1_taken_7 : decode cX1_taken 7 = .ok (.getfield 26, 3) := by decide +kernel
theorem dX1_taken_10 : decode cX1_taken 10 = .ok (.ishl, 1) := by decide +kernel
theorem dX1_taken_11 : decode cX1_taken 11 = .ok (.iconst 1, 1) := by decide +kernel
theorem dX1_taken_12 : decode cX1_taken 12 = .ok (.isub, 1) := by decide +kernel
theorem dX1_taken_13 : decode cX1_taken 13 = .ok (.iand, 1) := by decide +kernel
theorem dX1_taken_14 : decode cX1_taken 14 = .ok (.ireturn, 1) := by decide +kernel
theorem dX1_work_0 : decode cX1_work 0 = .ok (.aload_n 0, 1) := by decide +kernel
theorem dX1_work_1 : decode cX1_work 1 = .ok (.getfield 34, 3) := by decide +kernel
theorem dX1_work_4 : decode cX1_work 4 = .ok (.ifCond .eq 4, 3) := by decide +kernel
theorem dX1_work_7 : decode cX1_work 7 = .ok (.return_, 1) := by decide +kernel
theorem dX1_work_8 : decode cX1_work 8 = .ok (.aload_n 0, 1) := by decide +kernel
theorem dX1_work_9 : decode cX1_work 9 = .ok (.iconst 1, 1) := by decide +kernel
theorem dX1_work_10 : decode cX1_work 10 = .ok (.putfield 34, 3) := by decide +kernel
theorem dX1_work_13 : decode cX1_work 13 = .ok (.iconst 1, 1) := by decide +kernel
theorem dX1_work_14 : decode cX1_work 14 = .ok (.aload_n 0, 1) := by decide +kernel
theorem dX1_work_15 : decode cX1_work 15 = .ok (.getfield 26, 3) := by decide +kernel
theorem dX1_work_18 : decode cX1_work 18 = .ok (.ishl, 1) := by decide +kernel
theorem dX1_work_19 : decode cX1_work 19 = .ok (.iconst 1, 1) := by decide +kernel
theorem dX1_work_20 : decode cX1_work 20 = .ok (.isub, 1) := by decide +kernel
theorem dX1_work_21 : decode cX1_work 21 = .ok (.istore_n 1, 1) := by decide +kernel
theorem dX1_work_22 : decode cX1_work 22 = .ok (.iload_n 1, 1) := by decide +kernel
theorem dX1_work_23 : decode cX1_work 23 = .ok (.ifCond .lt 59, 3) := by decide +kernel
theorem dX1_work_26 : decode cX1_work 26 = .ok (.iload_n 1, 1) := by decide +kernel
theorem dX1_work_27 : decode cX1_work 27 = .ok (.istore_n 2, 1) := by decide +kernel
theorem dX1_work_28 : decode cX1_work 28 = .ok (.iconst (-1), 1) := by decide +kernel
theorem dX1_work_29 : decode cX1_work 29 = .ok (.istore_n 3, 1) := by decide +kernel
theorem dX1_work_30 : decode cX1_work 30 = .ok (.iload_n 2, 1) := by decide +kernel
theorem dX1_work_31 : decode cX1_work 31 = .ok (.iload_n 3, 1) := by decide +kernel
theorem dX1_work_32 : decode cX1_work 32 = .ok (.if_icmp .eq 37, 3) := by decide +kernel
theorem dX1_work_35 : decode cX1_work 35 = .ok (.iload_n 2, 1) := by decide +kernel
theorem dX1_work_36 : decode cX1_work 36 = .ok (.istore_n 3, 1) := by decide +kernel
theorem dX1_work_37 : decode cX1_work 37 = .ok (.iconst 0, 1) := by decide +kernel
theorem dX1_work_38 : decode cX1_work 38 = .ok (.istore 4, 2) := by decide +kernel
theorem dX1_work_40 : decode cX1_work 40 = .ok (.iload 4, 2) := by decide +kernel
theorem dX1_work_42 : decode cX1_work 42 = .ok (.aload_n 0, 1) := by decide +kernel
theorem dX1_work_43 : decode cX1_work 43 = .ok (.getfield 26, 3) := by decide +kernel
theorem dX1_work_46 : decode cX1_work 46 = .ok (.if_icmp .ge 20, 3) := by decide +kernel
theorem dX1_work_49 : decode cX1_work 49 = .ok (.iload_n 2, 1) := by decide +kernel
theorem dX1_work_50 : decode cX1_work 50 = .ok (.aload_n 0, 1) := by decide +kernel
theorem dX1_work_51 : decode cX1_work 51 = .ok (.iload_n 1, 1) := by decide +kernel
theorem dX1_work_52 : decode cX1_work 52 = .ok (.iload_n 2, 1) := by decide +kernel
theorem dX1_work_53 : decode cX1_work 53 = .ok (.iload 4, 2) := by decide +kernel
theorem dX1_work_55 : decode cX1_work 55 = .ok (.invokevirtual 52, 3) := by decide +kernel
theorem dX1_work_58 : decode cX1_work 58 = .ok (.ior, 1) := by decide +kernel
theorem dX1_work_59 : decode cX1_work 59 = .ok (.istore_n 2, 1) := by decide +kernel
theorem dX1_work_60 : decode cX1_work 60 = .ok (.iinc 4 1, 3) := by decide +kernel
theorem dX1_work_63 : decode cX1_work 63 = .ok (.goto (-23), 3) := by decide +kernel
theorem dX1_work_66 : decode cX1_work 66 = .ok (.goto (-36), 3) := by decide +kernel
theorem dX1_work_69 : decode cX1_work 69 = .ok (.aload_n 0, 1) := by decide +kernel
theorem dX1_work_70 : decode cX1_work 70 = .ok (.getfield 19, 3) := by decide +kernel
theorem dX1_work_73 : decode cX1_work 73 = .ok (.iload_n 1, 1) := by decide +kernel
theorem dX1_work_74 : decode cX1_work 74 = .ok (.iload_n 2, 1) := by decide +kernel
theorem dX1_work_75 : decode cX1_work 75 = .ok (.iastore, 1) := by decide +kernel
theorem dX1_work_76 : decode cX1_work 76 = .ok (.iinc 1 (-1), 3) := by decide +kernel
theorem dX1_work_79 : decode cX1_work 79 = .ok (.goto (-57), 3) := by decide +kernel
theorem dX1_work_82 : decode cX1_work 82 = .ok (.return_, 1) := by decide +kernel
theorem dX1_more_0 : decode cX1_more 0 = .ok (.aload_n 0, 1) := by decide +kernel
theorem dX1_more_1 : decode cX1_more 1 = .ok (.getfield 7, 3) := by decide +kernel
theorem dX1_more_4 : decode cX1_more 4 = .ok (.iload_n 3, 1) := by decide +kernel
theorem dX1_more_5 : decode cX1_more 5 = .ok (.iaload, 1) := by decide +kernel
theorem dX1_more_6 : decode cX1_more 6 = .ok (.istore 4, 2) := by decide +kernel
theorem dX1_more_8 : decode cX1_more 8 = .ok (.aload_n 0, 1) := by decide +kernel
theorem dX1_more_9 : decode cX1_more 9 = .ok (.getfield 13, 3) := by decide +kernel
theorem dX1_more_12 : decode cX1_more 12 = .ok (.iload_n 3, 1) := by decide +kernel
theorem dX1_more_13 : decode cX1_more 13 = .ok (.iaload, 1) := by decide +kernel
theorem dX1_more_14 : decode cX1_more 14 = .ok (.istore 5, 2) := by decide +kernel
theorem dX1_more_16 : decode cX1_more 16 = .ok (.aload_n 0, 1) := by decide +kernel
theorem dX1_more_17 : decode cX1_more 17 = .ok (.getfield 16, 3) := by decide +kernel
theorem dX1_more_20 : decode cX1_more 20 = .ok (.iload_n 3, 1) := by decide +kernel
theorem dX1_more_21 : decode cX1_more 21 = .ok (.iaload, 1) := by decide +kernel
theorem dX1_more_22 : decode cX1_more 22 = .ok (.istore 6, 2) := by decide +kernel
theorem dX1_more_24 : decode cX1_more 24 = .ok (.iload 4, 2) := by decide +kernel
theorem dX1_more_26 : decode cX1_more 26 = .ok (.iconst 4, 1) := by decide +kernel
theorem dX1_more_27 : decode cX1_more 27 = .ok (.if_icmp .ne 25, 3) := by decide +kernel
theorem dX1_more_30 : decode cX1_more 30 = .ok (.aload_n 0, 1) := by decide +kernel
theorem dX1_more_31 : decode cX1_more 31 = .ok (.iload_n 2, 1) := by decide +kernel
theorem dX1_more_32 : decode cX1_more 32 = .ok (.iload_n 3, 1) := by decide +kernel
theorem dX1_more_33 : decode cX1_more 33 = .ok (.invokevirtual 45, 3) := by decide +kernel
theorem dX1_more_36 : decode cX1_more 36 = .ok (.ifCond .eq 14, 3) := by decide +kernel
theorem dX1_more_39 : decode cX1_more 39 = .ok (.iconst 1, 1) := by decide +kernel
theorem dX1_more_40 : decode cX1_more 40 = .ok (.aload_n 0, 1) := by decide +kernel
theorem dX1_more_41 : decode cX1_more 41 = .ok (.getfield 26, 3) := by decide +kernel
theorem dX1_more_44 : decode cX1_more 44 = .ok (.ishl, 1) := by decide +kernel
theorem dX1_more_45 : decode cX1_more 45 = .ok (.iconst 1, 1) := by decide +kernel
theorem dX1_more_46 : decode cX1_more 46 = .ok (.isub, 1) := by decide +kernel
theorem dX1_more_47 : decode cX1_more 47 = .ok (.goto 4, 3) := by decide +kernel
theorem dX1_more_50 : decode cX1_more 50 = .ok (.iconst 0, 1) := by decide +kernel
theorem dX1_more_51 : decode cX1_more 51 = .ok (.ireturn, 1) := by decide +kernel
theorem dX1_more_52 : decode cX1_more 52 = .ok (.iload 4, 2) := by decide +kernel
theorem dX1_more_54 : decode cX1_more 54 = .ok (.iconst 3, 1) := by decide +kernel
theorem dX1_more_55 : decode cX1_more 55 = .ok (.if_icmp .ne 5, 3) := by decide +kernel
theorem dX1_more_58 : decode cX1_more 58 = .ok (.iconst 0, 1) := by decide +kernel
theorem dX1_more_59 : decode cX1_more 59 = .ok (.ireturn, 1) := by decide +kernel
theorem dX1_more_60 : decode cX1_more 60 = .ok (.aload_n 0, 1) := by decide +kernel
theorem dX1_more_61 : decode cX1_more 61 = .ok (.iload_n 2, 1) := by decide +kernel
theorem dX1_more_62 : decode cX1_more 62 = .ok (.iload_n 3, 1) := by decide +kernel
theorem dX1_more_63 : decode cX1_more 63 = .ok (.invokevirtual 45, 3) := by decide +kernel
theorem dX1_more_66 : decode cX1_more 66 = .ok (.istore 7, 2) := by decide +kernel
theorem dX1_more_68 : decode cX1_more 68 = .ok (.iconst 1, 1) := by decide +kernel
theorem dX1_more_69 : decode cX1_more 69 = .ok (.iload 5, 2) := by decide +kernel
theorem dX1_more_71 : decode cX1_more 71 = .ok (.ishl, 1) := by decide +kernel
theorem dX1_more_72 : decode cX1_more 72 = .ok (.iconst 1, 1) := by decide +kernel
theorem dX1_more_73 : decode cX1_more 73 = .ok (.iload 6, 2) := by decide +kernel
theorem dX1_more_75 : decode cX1_more 75 = .ok (.ishl, 1) := by decide +kernel
theorem dX1_more_76 : decode cX1_more 76 = .ok (.ior, 1) := by decide +kernel
theorem dX1_more_77 : decode cX1_more 77 = .ok (.istore 8, 2) := by decide +kernel
theorem dX1_more_79 : decode cX1_more 79 = .ok (.iload 4, 2) := by decide +kernel
theorem dX1_more_81 : decode cX1_more 81 = .ok (.ifCond .ne 30, 3) := by decide +kernel
theorem dX1_more_84 : decode cX1_more 84 = .ok (.iload 7, 2) := by decide +kernel
theorem dX1_more_86 : decode cX1_more 86 = .ok (.ifCond .eq 8, 3) := by decide +kernel
theorem dX1_more_89 : decode cX1_more 89 = .ok (.iload 8, 2) := by decide +kernel
theorem dX1_more_91 : decode cX1_more 91 = .ok (.goto 19, 3) := by decide +kernel
theorem dX1_more_94 : decode cX1_more 94 = .ok (.iload_n 2, 1) := by decide +kernel
theorem dX1_more_95 : decode cX1_more 95 = .ok (.iload 8, 2) := by decide +kernel
theorem dX1_more_97 : decode cX1_more 97 = .ok (.iand, 1) := by decide +kernel
theorem dX1_more_98 : decode cX1_more 98 = .ok (.iload 8, 2) := by decide +kernel
theorem dX1_more_100 : decode cX1_more 100 = .ok (.if_icmp .ne 9, 3) := by decide +kernel
theorem dX1_more_103 : decode cX1_more 103 = .ok (.iconst 1, 1) := by decide +kernel
theorem dX1_more_104 : decode cX1_more 104 = .ok (.iload_n 3, 1) := by decide +kernel
theorem dX1_more_105 : decode cX1_more 105 = .ok (.ishl, 1) := by decide +kernel
theorem dX1_more_106 : decode cX1_more 106 = .ok (.goto 4, 3) := by decide +kernel
theorem dX1_more_109 : decode cX1_more 109 = .ok (.iconst 0, 1) := by decide +kernel
theorem dX1_more_110 : decode cX1_more 110 = .ok (.ireturn, 1) := by decide +kernel
theorem dX1_more_111 : decode cX1_more 111 = .ok (.aload_n 0, 1) := by decide +kernel
theorem dX1_more_112 : decode cX1_more 112 = .ok (.iload_n 1, 1) := by decide +kernel
theorem dX1_more_113 : decode cX1_more 113 = .ok (.iload 5, 2) := by decide +kernel
theorem dX1_more_115 : decode cX1_more 115 = .ok (.iload_n 2, 1) := by decide +kernel
theorem dX1_more_116 : decode cX1_more 116 = .ok (.invokevirtual 49, 3) := by decide +kernel
theorem dX1_more_119 : decode cX1_more 119 = .ok (.istore 9, 2) := by decide +kernel
theorem dX1_more_121 : decode cX1_more 121 = .ok (.iload 4, 2) := by decide +kernel
theorem dX1_more_123 : decode cX1_more 123 = .ok (.iconst 2, 1) := by decide +kernel
theorem dX1_more_124 : decode cX1_more 124 = .ok (.if_icmp .ne 51, 3) := by decide +kernel
theorem dX1_more_127 : decode cX1_more 127 = .ok (.aload_n 0, 1) := by decide +kernel
theorem dX1_more_128 : decode cX1_more 128 = .ok (.iload 9, 2) := by decide +kernel
theorem dX1_more_130 : decode cX1_more 130 = .ok (.iload 6, 2) := by decide +kernel
theorem dX1_more_132 : decode cX1_more 132 = .ok (.invokevirtual 45, 3) := by decide +kernel
theorem dX1_more_135 : decode cX1_more 135 = .ok (.ifCond .eq 9, 3) := by decide +kernel
theorem dX1_more_138 : decode cX1_more 138 = .ok (.iconst 1, 1) := by decide +kernel
theorem dX1_more_139 : decode cX1_more 139 = .ok (.iload_n 3, 1) := by decide +kernel
theorem dX1_more_140 : decode cX1_more 140 = .ok (.ishl, 1) := by decide +kernel
theorem dX1_more_141 : decode cX1_more 141 = .ok (.goto 4, 3) := by decide +kernel
theorem dX1_more_144 : decode cX1_more 144 = .ok (.iconst 0, 1) := by decide +kernel
theorem dX1_more_145 : decode cX1_more 145 = .ok (.istore 10, 2) := by decide +kernel
theorem dX1_more_147 : decode cX1_more 147 = .ok (.iload 7, 2) := by decide +kernel
theorem dX1_more_149 : decode cX1_more 149 = .ok (.ifCond .eq 23, 3) := by decide +kernel
theorem dX1_more_152 : decode cX1_more 152 = .ok (.aload_n 0, 1) := by decide +kernel
theorem dX1_more_153 : decode cX1_more 153 = .ok (.iload_n 2, 1) := by decide +kernel
theorem dX1_more_154 : decode cX1_more 154 = .ok (.iload 5, 2) := by decide +kernel
theorem dX1_more_156 : decode cX1_more 156 = .ok (.invokevirtual 45, 3) := by decide +kernel
theorem dX1_more_159 : decode cX1_more 159 = .ok (.ifCond .eq 13, 3) := by decide +kernel
theorem dX1_more_162 : decode cX1_more 162 = .ok (.iload 10, 2) := by decide +kernel
theorem dX1_more_164 : decode cX1_more 164 = .ok (.iconst 1, 1) := by decide +kernel
theorem dX1_more_165 : decode cX1_more 165 = .ok (.iload 6, 2) := by decide +kernel
theorem dX1_more_167 : decode cX1_more 167 = .ok (.ishl, 1) := by decide +kernel
theorem dX1_more_168 : decode cX1_more 168 = .ok (.ior, 1) := by decide +kernel
theorem dX1_more_169 : decode cX1_more 169 = .ok (.goto 5, 3) := by decide +kernel
theorem dX1_more_172 : decode cX1_more 172 = .ok (.iload 10, 2) := by decide +kernel
theorem dX1_more_174 : decode cX1_more 174 = .ok (.ireturn, 1) := by decide +kernel
theorem dX1_more_175 : decode cX1_more 175 = .ok (.aload_n 0, 1) := by decide +kernel
theorem dX1_more_176 : decode cX1_more 176 = .ok (.iload_n 1, 1) := by decide +kernel
theorem dX1_more_177 : decode cX1_more 177 = .ok (.iload 6, 2) := by decide +kernel
theorem dX1_more_179 : decode cX1_more 179 = .ok (.iload_n 2, 1) := by decide +kernel
theorem dX1_more_180 : decode cX1_more 180 = .ok (.invokevirtual 49, 3) := by decide +kernel
theorem dX1_more_183 : decode cX1_more 183 = .ok (.istore 10, 2) := by decide +kernel
theorem dX1_more_185 : decode cX1_more 185 = .ok (.iload_n 2, 1) := by decide +kernel
theorem dX1_more_186 : decode cX1_more 186 = .ok (.iload 8, 2) := by decide +kernel
theorem dX1_more_188 : decode cX1_more 188 = .ok (.iand, 1) := by decide +kernel
theorem dX1_more_189 : decode cX1_more 189 = .ok (.ifCond .eq 9, 3) := by decide +kernel
theorem dX1_more_192 : decode cX1_more 192 = .ok (.iconst 1, 1) := by decide +kernel
theorem dX1_more_193 : decode cX1_more 193 = .ok (.iload_n 3, 1) := by decide +kernel
theorem dX1_more_194 : decode cX1_more 194 = .ok (.ishl, 1) := by decide +kernel
theorem dX1_more_195 : decode cX1_more 195 = .ok (.goto 4, 3) := by decide +kernel
theorem dX1_more_198 : decode cX1_more 198 = .ok (.iconst 0, 1) := by decide +kernel
theorem dX1_more_199 : decode cX1_more 199 = .ok (.istore 11, 2) := by decide +kernel
theorem dX1_more_201 : decode cX1_more 201 = .ok (.iload 7, 2) := by decide +kernel
theorem dX1_more_203 : decode cX1_more 203 = .ok (.ifCond .eq 14, 3) := by decide +kernel
theorem dX1_more_206 : decode cX1_more 206 = .ok (.iload 9, 2) := by decide +kernel
theorem dX1_more_208 : decode cX1_more 208 = .ok (.iload 10, 2) := by decide +kernel
theorem dX1_more_210 : decode cX1_more 210 = .ok (.iand, 1) := by decide +kernel
theorem dX1_more_211 : decode cX1_more 211 = .ok (.iload 11, 2) := by decide +kernel
theorem dX1_more_213 : decode cX1_more 213 = .ok (.ior, 1) := by decide +kernel
theorem dX1_more_214 : decode cX1_more 214 = .ok (.goto 5, 3) := by decide +kernel
theorem dX1_more_217 : decode cX1_more 217 = .ok (.iload 11, 2) := by decide +kernel
theorem dX1_more_219 : decode cX1_more 219 = .ok (.ireturn, 1) := by decide +kernel
theorem dX1_has_0 : decode cX1_has 0 = .ok (.iload_n 1, 1) := by decide +kernel
theorem dX1_has_1 : decode cX1_has 1 = .ok (.iload_n 2, 1) := by decide +kernel
theorem dX1_has_2 : decode cX1_has 2 = .ok (.ishr, 1) := by decide +kernel
theorem dX1_has_3 : decode cX1_has 3 = .ok (.iconst 1, 1) := by decide +kernel
theorem dX1_has_4 : decode cX1_has 4 = .ok (.iand, 1) := by decide +kernel
theorem dX1_has_5 : decode cX1_has 5 = .ok (.iconst 1, 1) := by decide +kernel
theorem dX1_has_6 : decode cX1_has 6 = .ok (.if_icmp .ne 7, 3) := by decide +kernel
theorem dX1_has_9 : decode cX1_has 9 = .ok (.iconst 1, 1) := by decide +kernel
theorem dX1_has_10 : decode cX1_has 10 = .ok (.goto 4, 3) := by decide +kernel
theorem dX1_has_13 : decode cX1_has 13 = .ok (.iconst 0, 1) := by decide +kernel
theorem dX1_has_14 : decode cX1_has 14 = .ok (.ireturn, 1) := by decide +kernel
theorem dX1_with_0 : decode cX1_with 0 = .ok (.aload_n 0, 1) := by decide +kernel
theorem dX1_with_1 : decode cX1_with 1 = .ok (.iload_n 1, 1) := by decide +kernel
theorem dX1_with_2 : decode cX1_with 2 = .ok (.iload_n 2, 1) := by decide +kernel
theorem dX1_with_3 : decode cX1_with 3 = .ok (.invokevirtual 45, 3) := by decide +kernel
theorem dX1_with_6 : decode cX1_with 6 = .ok (.ifCond .eq 7, 3) := by decide +kernel
theorem dX1_with_9 : decode cX1_with 9 = .ok (.iload_n 3, 1) := by decide +kernel
theorem dX1_with_10 : decode cX1_with 10 = .ok (.goto 13, 3) := by decide +kernel
theorem dX1_with_13 : decode cX1_with 13 = .ok (.aload_n 0, 1) := by decide +kernel
theorem dX1_with_14 : decode cX1_with 14 = .ok (.getfield 19, 3) := by decide +kernel
theorem dX1_with_17 : decode cX1_with 17 = .ok (.iload_n 1, 1) := by decide +kernel
theorem dX1_with_18 : decode cX1_with 18 = .ok (.iconst 1, 1) := by decide +kernel
theorem dX1_with_19 : decode cX1_with 19 = .ok (.iload_n 2, 1) := by decide +kernel
theorem dX1_with_20 : decode cX1_with 20 = .ok (.ishl, 1) := by decide +kernel
theorem dX1_with_21 : decode cX1_with 21 = .ok (.ior, 1) := by decide +kernel
theorem dX1_with_22 : decode cX1_with 22 = .ok (.iaload, 1) := by decide +kernel
theorem dX1_with_23 : decode cX1_with 23 = .ok (.ireturn, 1) := by decide +kernel
theorem dX1_all_0 : decode cX1_all 0 = .ok (.aload_n 0, 1) := by decide +kernel
theorem dX1_all_1 : decode cX1_all 1 = .ok (.iload_n 1, 1) := by decide +kernel
theorem dX1_all_2 : decode cX1_all 2 = .ok (.invokevirtual 58, 3) := by decide +kernel
theorem dX1_all_5 : decode cX1_all 5 = .ok (.istore_n 2, 1) := by decide +kernel
theorem dX1_all_6 : decode cX1_all 6 = .ok (.aload_n 0, 1) := by decide +kernel
theorem dX1_all_7 : decode cX1_all 7 = .ok (.getfield 19, 3) := by decide +kernel
theorem dX1_all_10 : decode cX1_all 10 = .ok (.iload_n 2, 1) := by decide +kernel
theorem dX1_all_11 : decode cX1_all 11 = .ok (.iaload, 1) := by decide +kernel
theorem dX1_all_12 : decode cX1_all 12 = .ok (.ireturn, 1) := by decide +kernel
theorem dX1_classically_0 : decode cX1_classically 0 = .ok (.aload_n 0, 1) := by decide +kernel
theorem dX1_classically_1 : decode cX1_classically 1 = .ok (.iload_n 2, 1) := by decide +kernel
theorem dX1_classically_2 : decode cX1_classically 2 = .ok (.invokevirtual 41, 3) := by decide +kernel
theorem dX1_classically_5 : decode cX1_classically 5 = .ok (.ifCond .ne 5, 3) := by decide +kernel
end
section
set_option maxRecDepth 100000
theorem dX1_classically_8 : decode cX1_classically 8 = .ok (.iconst (-1), 1) := by decide +kernel
theorem dX1_classically_9 : decode cX1_classically 9 = .ok (.ireturn, 1) := by decide +kernel
theorem dX1_classically_10 : decode cX1_classically 10 = .ok (.iconst 0, 1) := by decide +kernel
theorem dX1_classically_11 : decode cX1_classically 11 = .ok (.istore_n 3, 1) := by decide +kernel
theorem dX1_classically_12 : decode cX1_classically 12 = .ok (.iload_n 3, 1) := by decide +kernel
theorem dX1_classically_13 : decode cX1_classically 13 = .ok (.bipush 16, 2) := by decide +kernel
theorem dX1_classically_15 : decode cX1_classically 15 = .ok (.if_icmp .ge 83, 3) := by decide +kernel
theorem dX1_classically_18 : decode cX1_classically 18 = .ok (.aload_n 0, 1) := by decide +kernel
theorem dX1_classically_19 : decode cX1_classically 19 = .ok (.iload_n 3, 1) := by decide +kernel
theorem dX1_classically_20 : decode cX1_classically 20 = .ok (.invokevirtual 62, 3) := by decide +kernel
theorem dX1_classically_23 : decode cX1_classically 23 = .ok (.iconst 1, 1) := by decide +kernel
theorem dX1_classically_24 : decode cX1_classically 24 = .ok (.istore 4, 2) := by decide +kernel
theorem dX1_classically_26 : decode cX1_classically 26 = .ok (.iconst 0, 1) := by decide +kernel
theorem dX1_classically_27 : decode cX1_classically 27 = .ok (.istore 5, 2) := by decide +kernel
theorem dX1_classically_29 : decode cX1_classically 29 = .ok (.iload 5, 2) := by decide +kernel
theorem dX1_classically_31 : decode cX1_classically 31 = .ok (.aload_n 0, 1) := by decide +kernel
theorem dX1_classically_32 : decode cX1_classically 32 = .ok (.getfield 26, 3) := by decide +kernel
theorem dX1_classically_35 : decode cX1_classically 35 = .ok (.if_icmp .ge 41, 3) := by decide +kernel
theorem dX1_classically_38 : decode cX1_classically 38 = .ok (.iload 4, 2) := by decide +kernel
theorem dX1_classically_40 : decode cX1_classically 40 = .ok (.ifCond .eq 27, 3) := by decide +kernel
theorem dX1_classically_43 : decode cX1_classically 43 = .ok (.aload_n 0, 1) := by decide +kernel
theorem dX1_classically_44 : decode cX1_classically 44 = .ok (.iload_n 1, 1) := by decide +kernel
theorem dX1_classically_45 : decode cX1_classically 45 = .ok (.iload 5, 2) := by decide +kernel
theorem dX1_classically_47 : decode cX1_classically 47 = .ok (.invokevirtual 45, 3) := by decide +kernel
theorem dX1_classically_50 : decode cX1_classically 50 = .ok (.ifCond .eq 13, 3) := by decide +kernel
theorem dX1_classically_53 : decode cX1_classically 53 = .ok (.aload_n 0, 1) := by decide +kernel
theorem dX1_classically_54 : decode cX1_classically 54 = .ok (.getfield 22, 3) := by decide +kernel
theorem dX1_classically_57 : decode cX1_classically 57 = .ok (.iload 5, 2) := by decide +kernel
theorem dX1_classically_59 : decode cX1_classically 59 = .ok (.baload, 1) := by decide +kernel
theorem dX1_classically_60 : decode cX1_classically 60 = .ok (.ifCond .eq 7, 3) := by decide +kernel
theorem dX1_classically_63 : decode cX1_classically 63 = .ok (.iconst 1, 1) := by decide +kernel
theorem dX1_classically_64 : decode cX1_classically 64 = .ok (.goto 4, 3) := by decide +kernel
theorem dX1_classically_67 : decode cX1_classically 67 = .ok (.iconst 0, 1) := by decide +kernel
theorem dX1_classically_68 : decode cX1_classically 68 = .ok (.istore 4, 2) := by decide +kernel
theorem dX1_classically_70 : decode cX1_classically 70 = .ok (.iinc 5 1, 3) := by decide +kernel
theorem dX1_classically_73 : decode cX1_classically 73 = .ok (.goto (-44), 3) := by decide +kernel
theorem dX1_classically_76 : decode cX1_classically 76 = .ok (.iload 4, 2) := by decide +kernel
theorem dX1_classically_78 : decode cX1_classically 78 = .ok (.ifCond .eq 14, 3) := by decide +kernel
theorem dX1_classically_81 : decode cX1_classically 81 = .ok (.aload_n 0, 1) := by decide +kernel
theorem dX1_classically_82 : decode cX1_classically 82 = .ok (.getfield 22, 3) := by decide +kernel
theorem dX1_classically_85 : decode cX1_classically 85 = .ok (.iload_n 2, 1) := by decide +kernel
theorem dX1_classically_86 : decode cX1_classically 86 = .ok (.baload, 1) := by decide +kernel
theorem dX1_classically_87 : decode cX1_classically 87 = .ok (.ifCond .ne 5, 3) := by decide +kernel
theorem dX1_classically_90 : decode cX1_classically 90 = .ok (.iconst 0, 1) := by decide +kernel
theorem dX1_classically_91 : decode cX1_classically 91 = .ok (.ireturn, 1) := by decide +kernel
theorem dX1_classically_92 : decode cX1_classically 92 = .ok (.iinc 3 1, 3) := by decide +kernel
theorem dX1_classically_95 : decode cX1_classically 95 = .ok (.goto (-83), 3) := by decide +kernel
theorem dX1_classically_98 : decode cX1_classically 98 = .ok (.iconst 1, 1) := by decide +kernel
theorem dX1_classically_99 : decode cX1_classically 99 = .ok (.ireturn, 1) := by decide +kernel
theorem dX1_judge_0 : decode cX1_judge 0 = .ok (.iconst 0, 1) := by decide +kernel
theorem dX1_judge_1 : decode cX1_judge 1 = .ok (.istore_n 2, 1) := by decide +kernel
theorem dX1_judge_2 : decode cX1_judge 2 = .ok (.iload_n 2, 1) := by decide +kernel
theorem dX1_judge_3 : decode cX1_judge 3 = .ok (.aload_n 0, 1) := by decide +kernel
theorem dX1_judge_4 : decode cX1_judge 4 = .ok (.getfield 26, 3) := by decide +kernel
theorem dX1_judge_7 : decode cX1_judge 7 = .ok (.if_icmp .ge 184, 3) := by decide +kernel
theorem dX1_judge_10 : decode cX1_judge 10 = .ok (.aload_n 0, 1) := by decide +kernel
theorem dX1_judge_11 : decode cX1_judge 11 = .ok (.getfield 13, 3) := by decide +kernel
theorem dX1_judge_14 : decode cX1_judge 14 = .ok (.iload_n 2, 1) := by decide +kernel
theorem dX1_judge_15 : decode cX1_judge 15 = .ok (.iaload, 1) := by decide +kernel
theorem dX1_judge_16 : decode cX1_judge 16 = .ok (.istore_n 3, 1) := by decide +kernel
theorem dX1_judge_17 : decode cX1_judge 17 = .ok (.aload_n 0, 1) := by decide +kernel
theorem dX1_judge_18 : decode cX1_judge 18 = .ok (.getfield 16, 3) := by decide +kernel
theorem dX1_judge_21 : decode cX1_judge 21 = .ok (.iload_n 2, 1) := by decide +kernel
theorem dX1_judge_22 : decode cX1_judge 22 = .ok (.iaload, 1) := by decide +kernel
theorem dX1_judge_23 : decode cX1_judge 23 = .ok (.istore 4, 2) := by decide +kernel
theorem dX1_judge_25 : decode cX1_judge 25 = .ok (.aload_n 0, 1) := by decide +kernel
theorem dX1_judge_26 : decode cX1_judge 26 = .ok (.getfield 7, 3) := by decide +kernel
theorem dX1_judge_29 : decode cX1_judge 29 = .ok (.iload_n 2, 1) := by decide +kernel
theorem dX1_judge_30 : decode cX1_judge 30 = .ok (.iaload, 1) := by decide +kernel
theorem dX1_judge_31 : decode cX1_judge 31 = .ok (.iconst 3, 1) := by decide +kernel
theorem dX1_judge_32 : decode cX1_judge 32 = .ok (.if_icmp .ne 18, 3) := by decide +kernel
theorem dX1_judge_35 : decode cX1_judge 35 = .ok (.aload_n 0, 1) := by decide +kernel
theorem dX1_judge_36 : decode cX1_judge 36 = .ok (.getfield 22, 3) := by decide +kernel
theorem dX1_judge_39 : decode cX1_judge 39 = .ok (.iload_n 2, 1) := by decide +kernel
theorem dX1_judge_40 : decode cX1_judge 40 = .ok (.aload_n 0, 1) := by decide +kernel
theorem dX1_judge_41 : decode cX1_judge 41 = .ok (.iload_n 1, 1) := by decide +kernel
theorem dX1_judge_42 : decode cX1_judge 42 = .ok (.iload_n 3, 1) := by decide +kernel
theorem dX1_judge_43 : decode cX1_judge 43 = .ok (.invokevirtual 45, 3) := by decide +kernel
theorem dX1_judge_46 : decode cX1_judge 46 = .ok (.bastore, 1) := by decide +kernel
theorem dX1_judge_47 : decode cX1_judge 47 = .ok (.goto 138, 3) := by decide +kernel
theorem dX1_judge_50 : decode cX1_judge 50 = .ok (.aload_n 0, 1) := by decide +kernel
theorem dX1_judge_51 : decode cX1_judge 51 = .ok (.getfield 7, 3) := by decide +kernel
theorem dX1_judge_54 : decode cX1_judge 54 = .ok (.iload_n 2, 1) := by decide +kernel
theorem dX1_judge_55 : decode cX1_judge 55 = .ok (.iaload, 1) := by decide +kernel
theorem dX1_judge_56 : decode cX1_judge 56 = .ok (.iconst 4, 1) := by decide +kernel
theorem dX1_judge_57 : decode cX1_judge 57 = .ok (.if_icmp .ne 13, 3) := by decide +kernel
theorem dX1_judge_60 : decode cX1_judge 60 = .ok (.aload_n 0, 1) := by decide +kernel
theorem dX1_judge_61 : decode cX1_judge 61 = .ok (.getfield 22, 3) := by decide +kernel
theorem dX1_judge_64 : decode cX1_judge 64 = .ok (.iload_n 2, 1) := by decide +kernel
theorem dX1_judge_65 : decode cX1_judge 65 = .ok (.iconst 0, 1) := by decide +kernel
theorem dX1_judge_66 : decode cX1_judge 66 = .ok (.bastore, 1) := by decide +kernel
theorem dX1_judge_67 : decode cX1_judge 67 = .ok (.goto 118, 3) := by decide +kernel
theorem dX1_judge_70 : decode cX1_judge 70 = .ok (.aload_n 0, 1) := by decide +kernel
theorem dX1_judge_71 : decode cX1_judge 71 = .ok (.getfield 7, 3) := by decide +kernel
theorem dX1_judge_74 : decode cX1_judge 74 = .ok (.iload_n 2, 1) := by decide +kernel
theorem dX1_judge_75 : decode cX1_judge 75 = .ok (.iaload, 1) := by decide +kernel
theorem dX1_judge_76 : decode cX1_judge 76 = .ok (.ifCond .ne 36, 3) := by decide +kernel
theorem dX1_judge_79 : decode cX1_judge 79 = .ok (.aload_n 0, 1) := by decide +kernel
theorem dX1_judge_80 : decode cX1_judge 80 = .ok (.getfield 22, 3) := by decide +kernel
theorem dX1_judge_83 : decode cX1_judge 83 = .ok (.iload_n 2, 1) := by decide +kernel
theorem dX1_judge_84 : decode cX1_judge 84 = .ok (.aload_n 0, 1) := by decide +kernel
theorem dX1_judge_85 : decode cX1_judge 85 = .ok (.getfield 22, 3) := by decide +kernel
theorem dX1_judge_88 : decode cX1_judge 88 = .ok (.iload_n 3, 1) := by decide +kernel
theorem dX1_judge_89 : decode cX1_judge 89 = .ok (.baload, 1) := by decide +kernel
theorem dX1_judge_90 : decode cX1_judge 90 = .ok (.ifCond .eq 17, 3) := by decide +kernel
theorem dX1_judge_93 : decode cX1_judge 93 = .ok (.aload_n 0, 1) := by decide +kernel
theorem dX1_judge_94 : decode cX1_judge 94 = .ok (.getfield 22, 3) := by decide +kernel
theorem dX1_judge_97 : decode cX1_judge 97 = .ok (.iload 4, 2) := by decide +kernel
theorem dX1_judge_99 : decode cX1_judge 99 = .ok (.baload, 1) := by decide +kernel
theorem dX1_judge_100 : decode cX1_judge 100 = .ok (.ifCond .eq 7, 3) := by decide +kernel
theorem dX1_judge_103 : decode cX1_judge 103 = .ok (.iconst 1, 1) := by decide +kernel
theorem dX1_judge_104 : decode cX1_judge 104 = .ok (.goto 4, 3) := by decide +kernel
theorem dX1_judge_107 : decode cX1_judge 107 = .ok (.iconst 0, 1) := by decide +kernel
theorem dX1_judge_108 : decode cX1_judge 108 = .ok (.bastore, 1) := by decide +kernel
theorem dX1_judge_109 : decode cX1_judge 109 = .ok (.goto 76, 3) := by decide +kernel
theorem dX1_judge_112 : decode cX1_judge 112 = .ok (.aload_n 0, 1) := by decide +kernel
theorem dX1_judge_113 : decode cX1_judge 113 = .ok (.getfield 7, 3) := by decide +kernel
theorem dX1_judge_116 : decode cX1_judge 116 = .ok (.iload_n 2, 1) := by decide +kernel
theorem dX1_judge_117 : decode cX1_judge 117 = .ok (.iaload, 1) := by decide +kernel
theorem dX1_judge_118 : decode cX1_judge 118 = .ok (.iconst 1, 1) := by decide +kernel
theorem dX1_judge_119 : decode cX1_judge 119 = .ok (.if_icmp .ne 36, 3) := by decide +kernel
theorem dX1_judge_122 : decode cX1_judge 122 = .ok (.aload_n 0, 1) := by decide +kernel
theorem dX1_judge_123 : decode cX1_judge 123 = .ok (.getfield 22, 3) := by decide +kernel
theorem dX1_judge_126 : decode cX1_judge 126 = .ok (.iload_n 2, 1) := by decide +kernel
theorem dX1_judge_127 : decode cX1_judge 127 = .ok (.aload_n 0, 1) := by decide +kernel
theorem dX1_judge_128 : decode cX1_judge 128 = .ok (.getfield 22, 3) := by decide +kernel
theorem dX1_judge_131 : decode cX1_judge 131 = .ok (.iload_n 3, 1) := by decide +kernel
theorem dX1_judge_132 : decode cX1_judge 132 = .ok (.baload, 1) := by decide +kernel
theorem dX1_judge_133 : decode cX1_judge 133 = .ok (.ifCond .ne 13, 3) := by decide +kernel
theorem dX1_judge_136 : decode cX1_judge 136 = .ok (.aload_n 0, 1) := by decide +kernel
theorem dX1_judge_137 : decode cX1_judge 137 = .ok (.getfield 22, 3) := by decide +kernel
theorem dX1_judge_140 : decode cX1_judge 140 = .ok (.iload 4, 2) := by decide +kernel
theorem dX1_judge_142 : decode cX1_judge 142 = .ok (.baload, 1) := by decide +kernel
theorem dX1_judge_143 : decode cX1_judge 143 = .ok (.ifCond .eq 7, 3) := by decide +kernel
theorem dX1_judge_146 : decode cX1_judge 146 = .ok (.iconst 1, 1) := by decide +kernel
theorem dX1_judge_147 : decode cX1_judge 147 = .ok (.goto 4, 3) := by decide +kernel
theorem dX1_judge_150 : decode cX1_judge 150 = .ok (.iconst 0, 1) := by decide +kernel
theorem dX1_judge_151 : decode cX1_judge 151 = .ok (.bastore, 1) := by decide +kernel
theorem dX1_judge_152 : decode cX1_judge 152 = .ok (.goto 33, 3) := by decide +kernel
theorem dX1_judge_155 : decode cX1_judge 155 = .ok (.aload_n 0, 1) := by decide +kernel
theorem dX1_judge_156 : decode cX1_judge 156 = .ok (.getfield 22, 3) := by decide +kernel
theorem dX1_judge_159 : decode cX1_judge 159 = .ok (.iload_n 2, 1) := by decide +kernel
theorem dX1_judge_160 : decode cX1_judge 160 = .ok (.aload_n 0, 1) := by decide +kernel
theorem dX1_judge_161 : decode cX1_judge 161 = .ok (.getfield 22, 3) := by decide +kernel
theorem dX1_judge_164 : decode cX1_judge 164 = .ok (.iload_n 3, 1) := by decide +kernel
theorem dX1_judge_165 : decode cX1_judge 165 = .ok (.baload, 1) := by decide +kernel
theorem dX1_judge_166 : decode cX1_judge 166 = .ok (.ifCond .eq 13, 3) := by decide +kernel
theorem dX1_judge_169 : decode cX1_judge 169 = .ok (.aload_n 0, 1) := by decide +kernel
theorem dX1_judge_170 : decode cX1_judge 170 = .ok (.getfield 22, 3) := by decide +kernel
theorem dX1_judge_173 : decode cX1_judge 173 = .ok (.iload 4, 2) := by decide +kernel
theorem dX1_judge_175 : decode cX1_judge 175 = .ok (.baload, 1) := by decide +kernel
theorem dX1_judge_176 : decode cX1_judge 176 = .ok (.ifCond .eq 7, 3) := by decide +kernel
theorem dX1_judge_179 : decode cX1_judge 179 = .ok (.iconst 1, 1) := by decide +kernel
theorem dX1_judge_180 : decode cX1_judge 180 = .ok (.goto 4, 3) := by decide +kernel
theorem dX1_judge_183 : decode cX1_judge 183 = .ok (.iconst 0, 1) := by decide +kernel
theorem dX1_judge_184 : decode cX1_judge 184 = .ok (.bastore, 1) := by decide +kernel
theorem dX1_judge_185 : decode cX1_judge 185 = .ok (.iinc 2 1, 3) := by decide +kernel
theorem dX1_judge_188 : decode cX1_judge 188 = .ok (.goto (-186), 3) := by decide +kernel
theorem dX1_judge_191 : decode cX1_judge 191 = .ok (.return_, 1) := by decide +kernel
theorem dX1_alike_0 : decode cX1_alike 0 = .ok (.aload_n 0, 1) := by decide +kernel
theorem dX1_alike_1 : decode cX1_alike 1 = .ok (.iload_n 1, 1) := by decide +kernel
theorem dX1_alike_2 : decode cX1_alike 2 = .ok (.invokevirtual 41, 3) := by decide +kernel
theorem dX1_alike_5 : decode cX1_alike 5 = .ok (.ifCond .eq 11, 3) := by decide +kernel
theorem dX1_alike_8 : decode cX1_alike 8 = .ok (.aload_n 0, 1) := by decide +kernel
theorem dX1_alike_9 : decode cX1_alike 9 = .ok (.iload_n 2, 1) := by decide +kernel
theorem dX1_alike_10 : decode cX1_alike 10 = .ok (.invokevirtual 41, 3) := by decide +kernel
theorem dX1_alike_13 : decode cX1_alike 13 = .ok (.ifCond .ne 5, 3) := by decide +kernel
theorem dX1_alike_16 : decode cX1_alike 16 = .ok (.iconst (-1), 1) := by decide +kernel
theorem dX1_alike_17 : decode cX1_alike 17 = .ok (.ireturn, 1) := by decide +kernel
theorem dX1_alike_18 : decode cX1_alike 18 = .ok (.aload_n 0, 1) := by decide +kernel
theorem dX1_alike_19 : decode cX1_alike 19 = .ok (.invokevirtual 55, 3) := by decide +kernel
theorem dX1_alike_22 : decode cX1_alike 22 = .ok (.aload_n 0, 1) := by decide +kernel
theorem dX1_alike_23 : decode cX1_alike 23 = .ok (.aload_n 0, 1) := by decide +kernel
theorem dX1_alike_24 : decode cX1_alike 24 = .ok (.getfield 19, 3) := by decide +kernel
theorem dX1_alike_27 : decode cX1_alike 27 = .ok (.iconst 1, 1) := by decide +kernel
theorem dX1_alike_28 : decode cX1_alike 28 = .ok (.iload_n 1, 1) := by decide +kernel
theorem dX1_alike_29 : decode cX1_alike 29 = .ok (.ishl, 1) := by decide +kernel
theorem dX1_alike_30 : decode cX1_alike 30 = .ok (.iaload, 1) := by decide +kernel
theorem dX1_alike_31 : decode cX1_alike 31 = .ok (.iload_n 2, 1) := by decide +kernel
theorem dX1_alike_32 : decode cX1_alike 32 = .ok (.invokevirtual 45, 3) := by decide +kernel
theorem dX1_alike_35 : decode cX1_alike 35 = .ok (.ifCond .eq 23, 3) := by decide +kernel
theorem dX1_alike_38 : decode cX1_alike 38 = .ok (.aload_n 0, 1) := by decide +kernel
theorem dX1_alike_39 : decode cX1_alike 39 = .ok (.aload_n 0, 1) := by decide +kernel
theorem dX1_alike_40 : decode cX1_alike 40 = .ok (.getfield 19, 3) := by decide +kernel
theorem dX1_alike_43 : decode cX1_alike 43 = .ok (.iconst 1, 1) := by decide +kernel
theorem dX1_alike_44 : decode cX1_alike 44 = .ok (.iload_n 2, 1) := by decide +kernel
theorem dX1_alike_45 : decode cX1_alike 45 = .ok (.ishl, 1) := by decide +kernel
theorem dX1_alike_46 : decode cX1_alike 46 = .ok (.iaload, 1) := by decide +kernel
theorem dX1_alike_47 : decode cX1_alike 47 = .ok (.iload_n 1, 1) := by decide +kernel
theorem dX1_alike_48 : decode cX1_alike 48 = .ok (.invokevirtual 45, 3) := by decide +kernel
theorem dX1_alike_51 : decode cX1_alike 51 = .ok (.ifCond .eq 7, 3) := by decide +kernel
theorem dX1_alike_54 : decode cX1_alike 54 = .ok (.iconst 1, 1) := by decide +kernel
theorem dX1_alike_55 : decode cX1_alike 55 = .ok (.goto 4, 3) := by decide +kernel
theorem dX1_alike_58 : decode cX1_alike 58 = .ok (.iconst 0, 1) := by decide +kernel
theorem dX1_alike_59 : decode cX1_alike 59 = .ok (.ireturn, 1) := by decide +kernel
theorem dX1_enough_0 : decode cX1_enough 0 = .ok (.aload_n 0, 1) := by decide +kernel
theorem dX1_enough_1 : decode cX1_enough 1 = .ok (.iload_n 2, 1) := by decide +kernel
theorem dX1_enough_2 : decode cX1_enough 2 = .ok (.invokevirtual 41, 3) := by decide +kernel
theorem dX1_enough_5 : decode cX1_enough 5 = .ok (.ifCond .ne 5, 3) := by decide +kernel
theorem dX1_enough_8 : decode cX1_enough 8 = .ok (.iconst (-1), 1) := by decide +kernel
theorem dX1_enough_9 : decode cX1_enough 9 = .ok (.ireturn, 1) := by decide +kernel
theorem dX1_enough_10 : decode cX1_enough 10 = .ok (.aload_n 0, 1) := by decide +kernel
theorem dX1_enough_11 : decode cX1_enough 11 = .ok (.iload_n 1, 1) := by decide +kernel
theorem dX1_enough_12 : decode cX1_enough 12 = .ok (.invokevirtual 58, 3) := by decide +kernel
theorem dX1_enough_15 : decode cX1_enough 15 = .ok (.istore_n 3, 1) := by decide +kernel
theorem dX1_enough_16 : decode cX1_enough 16 = .ok (.bipush (-4), 2) := by decide +kernel
theorem dX1_enough_18 : decode cX1_enough 18 = .ok (.istore 4, 2) := by decide +kernel
theorem dX1_enough_20 : decode cX1_enough 20 = .ok (.iconst 0, 1) := by decide +kernel
theorem dX1_enough_21 : decode cX1_enough 21 = .ok (.istore 5, 2) := by decide +kernel
theorem dX1_enough_23 : decode cX1_enough 23 = .ok (.iload 5, 2) := by decide +kernel
theorem dX1_enough_25 : decode cX1_enough 25 = .ok (.iload_n 3, 1) := by decide +kernel
theorem dX1_enough_26 : decode cX1_enough 26 = .ok (.if_icmp .gt 69, 3) := by decide +kernel
theorem dX1_enough_29 : decode cX1_enough 29 = .ok (.aload_n 0, 1) := by decide +kernel
theorem dX1_enough_30 : decode cX1_enough 30 = .ok (.iload 5, 2) := by decide +kernel
theorem dX1_enough_32 : decode cX1_enough 32 = .ok (.invokevirtual 66, 3) := by decide +kernel
theorem dX1_enough_35 : decode cX1_enough 35 = .ok (.istore 6, 2) := by decide +kernel
theorem dX1_enough_37 : decode cX1_enough 37 = .ok (.iload 5, 2) := by decide +kernel
theorem dX1_enough_39 : decode cX1_enough 39 = .ok (.iload_n 3, 1) := by decide +kernel
theorem dX1_enough_40 : decode cX1_enough 40 = .ok (.iconst (-1), 1) := by decide +kernel
theorem dX1_enough_41 : decode cX1_enough 41 = .ok (.ixor, 1) := by decide +kernel
theorem dX1_enough_42 : decode cX1_enough 42 = .ok (.iand, 1) := by decide +kernel
theorem dX1_enough_43 : decode cX1_enough 43 = .ok (.ifCond .ne 22, 3) := by decide +kernel
theorem dX1_enough_46 : decode cX1_enough 46 = .ok (.aload_n 0, 1) := by decide +kernel
theorem dX1_enough_47 : decode cX1_enough 47 = .ok (.aload_n 0, 1) := by decide +kernel
theorem dX1_enough_48 : decode cX1_enough 48 = .ok (.getfield 19, 3) := by decide +kernel
theorem dX1_enough_51 : decode cX1_enough 51 = .ok (.iload 5, 2) := by decide +kernel
theorem dX1_enough_53 : decode cX1_enough 53 = .ok (.iaload, 1) := by decide +kernel
theorem dX1_enough_54 : decode cX1_enough 54 = .ok (.iload_n 2, 1) := by decide +kernel
theorem dX1_enough_55 : decode cX1_enough 55 = .ok (.invokevirtual 45, 3) := by decide +kernel
theorem dX1_enough_58 : decode cX1_enough 58 = .ok (.ifCond .eq 7, 3) := by decide +kernel
theorem dX1_enough_61 : decode cX1_enough 61 = .ok (.iconst 1, 1) := by decide +kernel
theorem dX1_enough_62 : decode cX1_enough 62 = .ok (.goto 4, 3) := by decide +kernel
theorem dX1_enough_65 : decode cX1_enough 65 = .ok (.iconst 0, 1) := by decide +kernel
theorem dX1_enough_66 : decode cX1_enough 66 = .ok (.istore 7, 2) := by decide +kernel
theorem dX1_enough_68 : decode cX1_enough 68 = .ok (.iload 7, 2) := by decide +kernel
theorem dX1_enough_70 : decode cX1_enough 70 = .ok (.ifCond .eq 19, 3) := by decide +kernel
theorem dX1_enough_73 : decode cX1_enough 73 = .ok (.iload 4, 2) := by decide +kernel
theorem dX1_enough_75 : decode cX1_enough 75 = .ok (.ifCond .lt 10, 3) := by decide +kernel
theorem dX1_enough_78 : decode cX1_enough 78 = .ok (.iload 6, 2) := by decide +kernel
theorem dX1_enough_80 : decode cX1_enough 80 = .ok (.iload 4, 2) := by decide +kernel
theorem dX1_enough_82 : decode cX1_enough 82 = .ok (.if_icmp .ge 7, 3) := by decide +kernel
theorem dX1_enough_85 : decode cX1_enough 85 = .ok (.iload 6, 2) := by decide +kernel
theorem dX1_enough_87 : decode cX1_enough 87 = .ok (.istore 4, 2) := by decide +kernel
theorem dX1_enough_89 : decode cX1_enough 89 = .ok (.iinc 5 1, 3) := by decide +kernel
theorem dX1_enough_92 : decode cX1_enough 92 = .ok (.goto (-69), 3) := by decide +kernel
theorem dX1_enough_95 : decode cX1_enough 95 = .ok (.iload 4, 2) := by decide +kernel
theorem dX1_enough_97 : decode cX1_enough 97 = .ok (.ireturn, 1) := by decide +kernel
theorem dX1_count_0 : decode cX1_count 0 = .ok (.iconst 0, 1) := by decide +kernel
theorem dX1_count_1 : decode cX1_count 1 = .ok (.istore_n 2, 1) := by decide +kernel
theorem dX1_count_2 : decode cX1_count 2 = .ok (.iconst 0, 1) := by decide +kernel
theorem dX1_count_3 : decode cX1_count 3 = .ok (.istore_n 3, 1) := by decide +kernel
theorem dX1_count_4 : decode cX1_count 4 = .ok (.iload_n 3, 1) := by decide +kernel
theorem dX1_count_5 : decode cX1_count 5 = .ok (.aload_n 0, 1) := by decide +kernel
theorem dX1_count_6 : decode cX1_count 6 = .ok (.getfield 26, 3) := by decide +kernel
theorem dX1_count_9 : decode cX1_count 9 = .ok (.if_icmp .ge 17, 3) := by decide +kernel
theorem dX1_count_12 : decode cX1_count 12 = .ok (.iload_n 2, 1) := by decide +kernel
theorem dX1_count_13 : decode cX1_count 13 = .ok (.iload_n 1, 1) := by decide +kernel
theorem dX1_count_14 : decode cX1_count 14 = .ok (.iload_n 3, 1) := by decide +kernel
theorem dX1_count_15 : decode cX1_count 15 = .ok (.ishr, 1) := by decide +kernel
theorem dX1_count_16 : decode cX1_count 16 = .ok (.iconst 1, 1) := by decide +kernel
theorem dX1_count_17 : decode cX1_count 17 = .ok (.iand, 1) := by decide +kernel
theorem dX1_count_18 : decode cX1_count 18 = .ok (.iadd, 1) := by decide +kernel
theorem dX1_count_19 : decode cX1_count 19 = .ok (.istore_n 2, 1) := by decide +kernel
theorem dX1_count_20 : decode cX1_count 20 = .ok (.iinc 3 1, 3) := by decide +kernel
theorem dX1_count_23 : decode cX1_count 23 = .ok (.goto (-19), 3) := by decide +kernel
theorem dX1_count_26 : decode cX1_count 26 = .ok (.iload_n 2, 1) := by decide +kernel
theorem dX1_count_27 : decode cX1_count 27 = .ok (.ireturn, 1) := by decide +kernel
theorem dX1_saturated_0 : decode cX1_saturated 0 = .ok (.aload_n 0, 1) := by decide +kernel
theorem dX1_saturated_1 : decode cX1_saturated 1 = .ok (.iload_n 1, 1) := by decide +kernel
theorem dX1_saturated_2 : decode cX1_saturated 2 = .ok (.invokevirtual 58, 3) := by decide +kernel
theorem dX1_saturated_5 : decode cX1_saturated 5 = .ok (.istore_n 2, 1) := by decide +kernel
theorem dX1_saturated_6 : decode cX1_saturated 6 = .ok (.aload_n 0, 1) := by decide +kernel
theorem dX1_saturated_7 : decode cX1_saturated 7 = .ok (.iload_n 2, 1) := by decide +kernel
theorem dX1_saturated_8 : decode cX1_saturated 8 = .ok (.invokevirtual 69, 3) := by decide +kernel
theorem dX1_saturated_11 : decode cX1_saturated 11 = .ok (.ifCond .eq 7, 3) := by decide +kernel
theorem dX1_saturated_14 : decode cX1_saturated 14 = .ok (.iconst 1, 1) := by decide +kernel
theorem dX1_saturated_15 : decode cX1_saturated 15 = .ok (.goto 4, 3) := by decide +kernel
theorem dX1_saturated_18 : decode cX1_saturated 18 = .ok (.iconst 0, 1) := by decide +kernel
theorem dX1_saturated_19 : decode cX1_saturated 19 = .ok (.ireturn, 1) := by decide +kernel
theorem dX1_isWorld_0 : decode cX1_isWorld 0 = .ok (.aload_n 0, 1) := by decide +kernel
theorem dX1_isWorld_1 : decode cX1_isWorld 1 = .ok (.getfield 19, 3) := by decide +kernel
theorem dX1_isWorld_4 : decode cX1_isWorld 4 = .ok (.iload_n 1, 1) := by decide +kernel
theorem dX1_isWorld_5 : decode cX1_isWorld 5 = .ok (.iaload, 1) := by decide +kernel
theorem dX1_isWorld_6 : decode cX1_isWorld 6 = .ok (.iload_n 1, 1) := by decide +kernel
theorem dX1_isWorld_7 : decode cX1_isWorld 7 = .ok (.if_icmp .eq 5, 3) := by decide +kernel
theorem dX1_isWorld_10 : decode cX1_isWorld 10 = .ok (.iconst 0, 1) := by decide +kernel
theorem dX1_isWorld_11 : decode cX1_isWorld 11 = .ok (.ireturn, 1) := by decide +kernel
theorem dX1_isWorld_12 : decode cX1_isWorld 12 = .ok (.iconst 0, 1) := by decide +kernel
theorem dX1_isWorld_13 : decode cX1_isWorld 13 = .ok (.istore_n 2, 1) := by decide +kernel
theorem dX1_isWorld_14 : decode cX1_isWorld 14 = .ok (.iload_n 2, 1) := by decide +kernel
theorem dX1_isWorld_15 : decode cX1_isWorld 15 = .ok (.aload_n 0, 1) := by decide +kernel
theorem dX1_isWorld_16 : decode cX1_isWorld 16 = .ok (.getfield 26, 3) := by decide +kernel
theorem dX1_isWorld_19 : decode cX1_isWorld 19 = .ok (.if_icmp .ge 79, 3) := by decide +kernel
theorem dX1_isWorld_22 : decode cX1_isWorld 22 = .ok (.aload_n 0, 1) := by decide +kernel
theorem dX1_isWorld_23 : decode cX1_isWorld 23 = .ok (.iload_n 1, 1) := by decide +kernel
theorem dX1_isWorld_24 : decode cX1_isWorld 24 = .ok (.iload_n 2, 1) := by decide +kernel
theorem dX1_isWorld_25 : decode cX1_isWorld 25 = .ok (.invokevirtual 45, 3) := by decide +kernel
theorem dX1_isWorld_28 : decode cX1_isWorld 28 = .ok (.ifCond .eq 15, 3) := by decide +kernel
theorem dX1_isWorld_31 : decode cX1_isWorld 31 = .ok (.aload_n 0, 1) := by decide +kernel
theorem dX1_isWorld_32 : decode cX1_isWorld 32 = .ok (.getfield 7, 3) := by decide +kernel
theorem dX1_isWorld_35 : decode cX1_isWorld 35 = .ok (.iload_n 2, 1) := by decide +kernel
theorem dX1_isWorld_36 : decode cX1_isWorld 36 = .ok (.iaload, 1) := by decide +kernel
theorem dX1_isWorld_37 : decode cX1_isWorld 37 = .ok (.iconst 4, 1) := by decide +kernel
theorem dX1_isWorld_38 : decode cX1_isWorld 38 = .ok (.if_icmp .ne 5, 3) := by decide +kernel
theorem dX1_isWorld_41 : decode cX1_isWorld 41 = .ok (.iconst 0, 1) := by decide +kernel
theorem dX1_isWorld_42 : decode cX1_isWorld 42 = .ok (.ireturn, 1) := by decide +kernel
theorem dX1_isWorld_43 : decode cX1_isWorld 43 = .ok (.aload_n 0, 1) := by decide +kernel
theorem dX1_isWorld_44 : decode cX1_isWorld 44 = .ok (.iload_n 1, 1) := by decide +kernel
theorem dX1_isWorld_45 : decode cX1_isWorld 45 = .ok (.iload_n 2, 1) := by decide +kernel
theorem dX1_isWorld_46 : decode cX1_isWorld 46 = .ok (.invokevirtual 45, 3) := by decide +kernel
theorem dX1_isWorld_49 : decode cX1_isWorld 49 = .ok (.ifCond .eq 43, 3) := by decide +kernel
theorem dX1_isWorld_52 : decode cX1_isWorld 52 = .ok (.aload_n 0, 1) := by decide +kernel
theorem dX1_isWorld_53 : decode cX1_isWorld 53 = .ok (.getfield 7, 3) := by decide +kernel
theorem dX1_isWorld_56 : decode cX1_isWorld 56 = .ok (.iload_n 2, 1) := by decide +kernel
theorem dX1_isWorld_57 : decode cX1_isWorld 57 = .ok (.iaload, 1) := by decide +kernel
theorem dX1_isWorld_58 : decode cX1_isWorld 58 = .ok (.iconst 1, 1) := by decide +kernel
theorem dX1_isWorld_59 : decode cX1_isWorld 59 = .ok (.if_icmp .ne 33, 3) := by decide +kernel
theorem dX1_isWorld_62 : decode cX1_isWorld 62 = .ok (.aload_n 0, 1) := by decide +kernel
theorem dX1_isWorld_63 : decode cX1_isWorld 63 = .ok (.iload_n 1, 1) := by decide +kernel
theorem dX1_isWorld_64 : decode cX1_isWorld 64 = .ok (.aload_n 0, 1) := by decide +kernel
theorem dX1_isWorld_65 : decode cX1_isWorld 65 = .ok (.getfield 13, 3) := by decide +kernel
theorem dX1_isWorld_68 : decode cX1_isWorld 68 = .ok (.iload_n 2, 1) := by decide +kernel
theorem dX1_isWorld_69 : decode cX1_isWorld 69 = .ok (.iaload, 1) := by decide +kernel
theorem dX1_isWorld_70 : decode cX1_isWorld 70 = .ok (.invokevirtual 45, 3) := by decide +kernel
theorem dX1_isWorld_73 : decode cX1_isWorld 73 = .ok (.ifCond .ne 19, 3) := by decide +kernel
theorem dX1_isWorld_76 : decode cX1_isWorld 76 = .ok (.aload_n 0, 1) := by decide +kernel
theorem dX1_isWorld_77 : decode cX1_isWorld 77 = .ok (.iload_n 1, 1) := by decide +kernel
theorem dX1_isWorld_78 : decode cX1_isWorld 78 = .ok (.aload_n 0, 1) := by decide +kernel
theorem dX1_isWorld_79 : decode cX1_isWorld 79 = .ok (.getfield 16, 3) := by decide +kernel
theorem dX1_isWorld_82 : decode cX1_isWorld 82 = .ok (.iload_n 2, 1) := by decide +kernel
theorem dX1_isWorld_83 : decode cX1_isWorld 83 = .ok (.iaload, 1) := by decide +kernel
theorem dX1_isWorld_84 : decode cX1_isWorld 84 = .ok (.invokevirtual 45, 3) := by decide +kernel
theorem dX1_isWorld_87 : decode cX1_isWorld 87 = .ok (.ifCond .ne 5, 3) := by decide +kernel
theorem dX1_isWorld_90 : decode cX1_isWorld 90 = .ok (.iconst 0, 1) := by decide +kernel
theorem dX1_isWorld_91 : decode cX1_isWorld 91 = .ok (.ireturn, 1) := by decide +kernel
theorem dX1_isWorld_92 : decode cX1_isWorld 92 = .ok (.iinc 2 1, 3) := by decide +kernel
theorem dX1_isWorld_95 : decode cX1_isWorld 95 = .ok (.goto (-81), 3) := by decide +kernel
theorem dX1_isWorld_98 : decode cX1_isWorld 98 = .ok (.iconst 1, 1) := by decide +kernel
theorem dX1_isWorld_99 : decode cX1_isWorld 99 = .ok (.ireturn, 1) := by decide +kernel
theorem dX1_worlds_0 : decode cX1_worlds 0 = .ok (.aload_n 0, 1) := by decide +kernel
theorem dX1_worlds_1 : decode cX1_worlds 1 = .ok (.invokevirtual 55, 3) := by decide +kernel
theorem dX1_worlds_4 : decode cX1_worlds 4 = .ok (.iconst 0, 1) := by decide +kernel
theorem dX1_worlds_5 : decode cX1_worlds 5 = .ok (.istore_n 1, 1) := by decide +kernel
theorem dX1_worlds_6 : decode cX1_worlds 6 = .ok (.iconst 0, 1) := by decide +kernel
theorem dX1_worlds_7 : decode cX1_worlds 7 = .ok (.istore_n 2, 1) := by decide +kernel
theorem dX1_worlds_8 : decode cX1_worlds 8 = .ok (.iload_n 2, 1) := by decide +kernel
theorem dX1_worlds_9 : decode cX1_worlds 9 = .ok (.iconst 1, 1) := by decide +kernel
theorem dX1_worlds_10 : decode cX1_worlds 10 = .ok (.aload_n 0, 1) := by decide +kernel
theorem dX1_worlds_11 : decode cX1_worlds 11 = .ok (.getfield 26, 3) := by decide +kernel
theorem dX1_worlds_14 : decode cX1_worlds 14 = .ok (.ishl, 1) := by decide +kernel
theorem dX1_worlds_15 : decode cX1_worlds 15 = .ok (.if_icmp .ge 20, 3) := by decide +kernel
theorem dX1_worlds_18 : decode cX1_worlds 18 = .ok (.aload_n 0, 1) := by decide +kernel
theorem dX1_worlds_19 : decode cX1_worlds 19 = .ok (.iload_n 2, 1) := by decide +kernel
theorem dX1_worlds_20 : decode cX1_worlds 20 = .ok (.invokevirtual 69, 3) := by decide +kernel
theorem dX1_worlds_23 : decode cX1_worlds 23 = .ok (.ifCond .eq 6, 3) := by decide +kernel
theorem dX1_worlds_26 : decode cX1_worlds 26 = .ok (.iinc 1 1, 3) := by decide +kernel
theorem dX1_worlds_29 : decode cX1_worlds 29 = .ok (.iinc 2 1, 3) := by decide +kernel
theorem dX1_worlds_32 : decode cX1_worlds 32 = .ok (.goto (-24), 3) := by decide +kernel
theorem dX1_worlds_35 : decode cX1_worlds 35 = .ok (.iload_n 1, 1) := by decide +kernel
theorem dX1_worlds_36 : decode cX1_worlds 36 = .ok (.ireturn, 1) := by decide +kernel
theorem dX1_against_0 : decode cX1_against 0 = .ok (.aload_n 0, 1) := by decide +kernel
theorem dX1_against_1 : decode cX1_against 1 = .ok (.iload_n 2, 1) := by decide +kernel
theorem dX1_against_2 : decode cX1_against 2 = .ok (.invokevirtual 41, 3) := by decide +kernel
theorem dX1_against_5 : decode cX1_against 5 = .ok (.ifCond .ne 5, 3) := by decide +kernel
theorem dX1_against_8 : decode cX1_against 8 = .ok (.iconst (-1), 1) := by decide +kernel
theorem dX1_against_9 : decode cX1_against 9 = .ok (.ireturn, 1) := by decide +kernel
theorem dX1_against_10 : decode cX1_against 10 = .ok (.aload_n 0, 1) := by decide +kernel
theorem dX1_against_11 : decode cX1_against 11 = .ok (.iload_n 1, 1) := by decide +kernel
theorem dX1_against_12 : decode cX1_against 12 = .ok (.invokevirtual 58, 3) := by decide +kernel
theorem dX1_against_15 : decode cX1_against 15 = .ok (.istore_n 3, 1) := by decide +kernel
theorem dX1_against_16 : decode cX1_against 16 = .ok (.iload_n 3, 1) := by decide +kernel
theorem dX1_against_17 : decode cX1_against 17 = .ok (.istore 4, 2) := by decide +kernel
theorem dX1_against_19 : decode cX1_against 19 = .ok (.iload 4, 2) := by decide +kernel
theorem dX1_against_21 : decode cX1_against 21 = .ok (.iconst 1, 1) := by decide +kernel
theorem dX1_against_22 : decode cX1_against 22 = .ok (.aload_n 0, 1) := by decide +kernel
theorem dX1_against_23 : decode cX1_against 23 = .ok (.getfield 26, 3) := by decide +kernel
theorem dX1_against_26 : decode cX1_against 26 = .ok (.ishl, 1) := by decide +kernel
theorem dX1_against_27 : decode cX1_against 27 = .ok (.if_icmp .ge 40, 3) := by decide +kernel
theorem dX1_against_30 : decode cX1_against 30 = .ok (.iload_n 3, 1) := by decide +kernel
theorem dX1_against_31 : decode cX1_against 31 = .ok (.iload 4, 2) := by decide +kernel
theorem dX1_against_33 : decode cX1_against 33 = .ok (.iconst (-1), 1) := by decide +kernel
theorem dX1_against_34 : decode cX1_against 34 = .ok (.ixor, 1) := by decide +kernel
theorem dX1_against_35 : decode cX1_against 35 = .ok (.iand, 1) := by decide +kernel
theorem dX1_against_36 : decode cX1_against 36 = .ok (.ifCond .ne 25, 3) := by decide +kernel
theorem dX1_against_39 : decode cX1_against 39 = .ok (.aload_n 0, 1) := by decide +kernel
theorem dX1_against_40 : decode cX1_against 40 = .ok (.iload 4, 2) := by decide +kernel
theorem dX1_against_42 : decode cX1_against 42 = .ok (.iload_n 2, 1) := by decide +kernel
theorem dX1_against_43 : decode cX1_against 43 = .ok (.invokevirtual 45, 3) := by decide +kernel
theorem dX1_against_46 : decode cX1_against 46 = .ok (.ifCond .ne 15, 3) := by decide +kernel
theorem dX1_against_49 : decode cX1_against 49 = .ok (.aload_n 0, 1) := by decide +kernel
theorem dX1_against_50 : decode cX1_against 50 = .ok (.iload 4, 2) := by decide +kernel
theorem dX1_against_52 : decode cX1_against 52 = .ok (.invokevirtual 69, 3) := by decide +kernel
theorem dX1_against_55 : decode cX1_against 55 = .ok (.ifCond .eq 6, 3) := by decide +kernel
theorem dX1_against_58 : decode cX1_against 58 = .ok (.iload 4, 2) := by decide +kernel
theorem dX1_against_60 : decode cX1_against 60 = .ok (.ireturn, 1) := by decide +kernel
theorem dX1_against_61 : decode cX1_against 61 = .ok (.iinc 4 1, 3) := by decide +kernel
theorem dX1_against_64 : decode cX1_against 64 = .ok (.goto (-45), 3) := by decide +kernel
theorem dX1_against_67 : decode cX1_against 67 = .ok (.bipush (-4), 2) := by decide +kernel
theorem dX1_against_69 : decode cX1_against 69 = .ok (.ireturn, 1) := by decide +kernel
theorem dX1_closedSets_0 : decode cX1_closedSets 0 = .ok (.aload_n 0, 1) := by decide +kernel
theorem dX1_closedSets_1 : decode cX1_closedSets 1 = .ok (.invokevirtual 55, 3) := by decide +kernel
theorem dX1_closedSets_4 : decode cX1_closedSets 4 = .ok (.iconst 0, 1) := by decide +kernel
theorem dX1_closedSets_5 : decode cX1_closedSets 5 = .ok (.istore_n 1, 1) := by decide +kernel
theorem dX1_closedSets_6 : decode cX1_closedSets 6 = .ok (.iconst 0, 1) := by decide +kernel
theorem dX1_closedSets_7 : decode cX1_closedSets 7 = .ok (.istore_n 2, 1) := by decide +kernel
theorem dX1_closedSets_8 : decode cX1_closedSets 8 = .ok (.iload_n 2, 1) := by decide +kernel
theorem dX1_closedSets_9 : decode cX1_closedSets 9 = .ok (.iconst 1, 1) := by decide +kernel
theorem dX1_closedSets_10 : decode cX1_closedSets 10 = .ok (.aload_n 0, 1) := by decide +kernel
theorem dX1_closedSets_11 : decode cX1_closedSets 11 = .ok (.getfield 26, 3) := by decide +kernel
theorem dX1_closedSets_14 : decode cX1_closedSets 14 = .ok (.ishl, 1) := by decide +kernel
theorem dX1_closedSets_15 : decode cX1_closedSets 15 = .ok (.if_icmp .ge 22, 3) := by decide +kernel
theorem dX1_closedSets_18 : decode cX1_closedSets 18 = .ok (.aload_n 0, 1) := by decide +kernel
theorem dX1_closedSets_19 : decode cX1_closedSets 19 = .ok (.getfield 19, 3) := by decide +kernel
theorem dX1_closedSets_22 : decode cX1_closedSets 22 = .ok (.iload_n 2, 1) := by decide +kernel
theorem dX1_closedSets_23 : decode cX1_closedSets 23 = .ok (.iaload, 1) := by decide +kernel
theorem dX1_closedSets_24 : decode cX1_closedSets 24 = .ok (.iload_n 2, 1) := by decide +kernel
theorem dX1_closedSets_25 : decode cX1_closedSets 25 = .ok (.if_icmp .ne 6, 3) := by decide +kernel
theorem dX1_closedSets_28 : decode cX1_closedSets 28 = .ok (.iinc 1 1, 3) := by decide +kernel
theorem dX1_closedSets_31 : decode cX1_closedSets 31 = .ok (.iinc 2 1, 3) := by decide +kernel
theorem dX1_closedSets_34 : decode cX1_closedSets 34 = .ok (.goto (-26), 3) := by decide +kernel
theorem dX1_closedSets_37 : decode cX1_closedSets 37 = .ok (.iload_n 1, 1) := by decide +kernel
theorem dX1_closedSets_38 : decode cX1_closedSets 38 = .ok (.ireturn, 1) := by decide +kernel
end
section
set_option maxRecDepth 100000
/-! the law's own entry -/
abbrev cL_law : ByteArray := code
theorem dL_law_0 : decode cL_law 0 = .ok (.new 7, 3) := by decide +kernel
theorem dL_law_3 : decode cL_law 3 = .ok (.dup, 1) := by decide +kernel
theorem dL_law_4 : decode cL_law 4 = .ok (.invokespecial 9, 3) := by decide +kernel
theorem dL_law_7 : decode cL_law 7 = .ok (.astore_n 1, 1) := by decide +kernel
theorem dL_law_8 : decode cL_law 8 = .ok (.new 10, 3) := by decide +kernel
theorem dL_law_11 : decode cL_law 11 = .ok (.dup, 1) := by decide +kernel
theorem dL_law_12 : decode cL_law 12 = .ok (.invokespecial 12, 3) := by decide +kernel
theorem dL_law_15 : decode cL_law 15 = .ok (.astore_n 2, 1) := by decide +kernel
theorem dL_law_16 : decode cL_law 16 = .ok (.iconst 0, 1) := by decide +kernel
theorem dL_law_17 : decode cL_law 17 = .ok (.istore_n 3, 1) := by decide +kernel
theorem dL_law_18 : decode cL_law 18 = .ok (.iload_n 3, 1) := by decide +kernel
theorem dL_law_19 : decode cL_law 19 = .ok (.aload_n 0, 1) := by decide +kernel
theorem dL_law_20 : decode cL_law 20 = .ok (.arraylength, 1) := by decide +kernel
theorem dL_law_21 : decode cL_law 21 = .ok (.iconst 4, 1) := by decide +kernel
theorem dL_law_22 : decode cL_law 22 = .ok (.isub, 1) := by decide +kernel
theorem dL_law_23 : decode cL_law 23 = .ok (.if_icmp .gt 429, 3) := by decide +kernel
theorem dL_law_26 : decode cL_law 26 = .ok (.aload_n 0, 1) := by decide +kernel
theorem dL_law_27 : decode cL_law 27 = .ok (.iload_n 3, 1) := by decide +kernel
theorem dL_law_28 : decode cL_law 28 = .ok (.iaload, 1) := by decide +kernel
theorem dL_law_29 : decode cL_law 29 = .ok (.bipush 15, 2) := by decide +kernel
theorem dL_law_31 : decode cL_law 31 = .ok (.iand, 1) := by decide +kernel
theorem dL_law_32 : decode cL_law 32 = .ok (.tableswitch 414 0 13 #[72, 95, 108, 151, 164, 177, 210, 233, 266, 299, 332, 355, 368, 401], 72) := by decide +kernel
theorem dL_law_104 : decode cL_law 104 = .ok (.aload_n 1, 1) := by decide +kernel
theorem dL_law_105 : decode cL_law 105 = .ok (.aload_n 0, 1) := by decide +kernel
theorem dL_law_106 : decode cL_law 106 = .ok (.iload_n 3, 1) := by decide +kernel
theorem dL_law_107 : decode cL_law 107 = .ok (.iconst 1, 1) := by decide +kernel
theorem dL_law_108 : decode cL_law 108 = .ok (.iadd, 1) := by decide +kernel
theorem dL_law_109 : decode cL_law 109 = .ok (.iaload, 1) := by decide +kernel
theorem dL_law_110 : decode cL_law 110 = .ok (.invokevirtual 13, 3) := by decide +kernel
theorem dL_law_113 : decode cL_law 113 = .ok (.aload_n 2, 1) := by decide +kernel
theorem dL_law_114 : decode cL_law 114 = .ok (.aload_n 0, 1) := by decide +kernel
theorem dL_law_115 : decode cL_law 115 = .ok (.iload_n 3, 1) := by decide +kernel
theorem dL_law_116 : decode cL_law 116 = .ok (.iconst 1, 1) := by decide +kernel
theorem dL_law_117 : decode cL_law 117 = .ok (.iadd, 1) := by decide +kernel
theorem dL_law_118 : decode cL_law 118 = .ok (.iaload, 1) := by decide +kernel
theorem dL_law_119 : decode cL_law 119 = .ok (.invokevirtual 17, 3) := by decide +kernel
theorem dL_law_122 : decode cL_law 122 = .ok (.if_icmp .eq 324, 3) := by decide +kernel
theorem dL_law_125 : decode cL_law 125 = .ok (.iconst 0, 1) := by decide +kernel
theorem dL_law_126 : decode cL_law 126 = .ok (.ireturn, 1) := by decide +kernel
theorem dL_law_127 : decode cL_law 127 = .ok (.aload_n 1, 1) := by decide +kernel
theorem dL_law_128 : decode cL_law 128 = .ok (.invokevirtual 18, 3) := by decide +kernel
theorem dL_law_131 : decode cL_law 131 = .ok (.aload_n 2, 1) := by decide +kernel
theorem dL_law_132 : decode cL_law 132 = .ok (.invokevirtual 22, 3) := by decide +kernel
theorem dL_law_135 : decode cL_law 135 = .ok (.if_icmp .eq 311, 3) := by decide +kernel
theorem dL_law_138 : decode cL_law 138 = .ok (.iconst 0, 1) := by decide +kernel
theorem dL_law_139 : decode cL_law 139 = .ok (.ireturn, 1) := by decide +kernel
theorem dL_law_140 : decode cL_law 140 = .ok (.aload_n 1, 1) := by decide +kernel
theorem dL_law_141 : decode cL_law 141 = .ok (.aload_n 0, 1) := by decide +kernel
theorem dL_law_142 : decode cL_law 142 = .ok (.iload_n 3, 1) := by decide +kernel
theorem dL_law_143 : decode cL_law 143 = .ok (.iconst 1, 1) := by decide +kernel
theorem dL_law_144 : decode cL_law 144 = .ok (.iadd, 1) := by decide +kernel
theorem dL_law_145 : decode cL_law 145 = .ok (.iaload, 1) := by decide +kernel
theorem dL_law_146 : decode cL_law 146 = .ok (.aload_n 0, 1) := by decide +kernel
theorem dL_law_147 : decode cL_law 147 = .ok (.iload_n 3, 1) := by decide +kernel
theorem dL_law_148 : decode cL_law 148 = .ok (.iconst 2, 1) := by decide +kernel
theorem dL_law_149 : decode cL_law 149 = .ok (.iadd, 1) := by decide +kernel
theorem dL_law_150 : decode cL_law 150 = .ok (.iaload, 1) := by decide +kernel
theorem dL_law_151 : decode cL_law 151 = .ok (.aload_n 0, 1) := by decide +kernel
theorem dL_law_152 : decode cL_law 152 = .ok (.iload_n 3, 1) := by decide +kernel
theorem dL_law_153 : decode cL_law 153 = .ok (.iconst 3, 1) := by decide +kernel
end
section
set_option maxRecDepth 100000
theorem dL_law_154 : decode cL_law 154 = .ok (.iadd, 1) := by decide +kernel
theorem dL_law_155 : decode cL_law 155 = .ok (.iaload, 1) := by decide +kernel
theorem dL_law_156 : decode cL_law 156 = .ok (.invokevirtual 23, 3) := by decide +kernel
theorem dL_law_159 : decode cL_law 159 = .ok (.aload_n 2, 1) := by decide +kernel
theorem dL_law_160 : decode cL_law 160 = .ok (.aload_n 0, 1) := by decide +kernel
theorem dL_law_161 : decode cL_law 161 = .ok (.iload_n 3, 1) := by decide +kernel
theorem dL_law_162 : decode cL_law 162 = .ok (.iconst 1, 1) := by decide +kernel
theorem dL_law_163 : decode cL_law 163 = .ok (.iadd, 1) := by decide +kernel
theorem dL_law_164 : decode cL_law 164 = .ok (.iaload, 1) := by decide +kernel
theorem dL_law_165 : decode cL_law 165 = .ok (.aload_n 0, 1) := by decide +kernel
theorem dL_law_166 : decode cL_law 166 = .ok (.iload_n 3, 1) := by decide +kernel
theorem dL_law_167 : decode cL_law 167 = .ok (.iconst 2, 1) := by decide +kernel
theorem dL_law_168 : decode cL_law 168 = .ok (.iadd, 1) := by decide +kernel
theorem dL_law_169 : decode cL_law 169 = .ok (.iaload, 1) := by decide +kernel
theorem dL_law_170 : decode cL_law 170 = .ok (.aload_n 0, 1) := by decide +kernel
theorem dL_law_171 : decode cL_law 171 = .ok (.iload_n 3, 1) := by decide +kernel
theorem dL_law_172 : decode cL_law 172 = .ok (.iconst 3, 1) := by decide +kernel
theorem dL_law_173 : decode cL_law 173 = .ok (.iadd, 1) := by decide +kernel
theorem dL_law_174 : decode cL_law 174 = .ok (.iaload, 1) := by decide +kernel
theorem dL_law_175 : decode cL_law 175 = .ok (.invokevirtual 27, 3) := by decide +kernel
theorem dL_law_178 : decode cL_law 178 = .ok (.if_icmp .eq 268, 3) := by decide +kernel
theorem dL_law_181 : decode cL_law 181 = .ok (.iconst 0, 1) := by decide +kernel
theorem dL_law_182 : decode cL_law 182 = .ok (.ireturn, 1) := by decide +kernel
theorem dL_law_183 : decode cL_law 183 = .ok (.aload_n 1, 1) := by decide +kernel
theorem dL_law_184 : decode cL_law 184 = .ok (.invokevirtual 28, 3) := by decide +kernel
theorem dL_law_187 : decode cL_law 187 = .ok (.aload_n 2, 1) := by decide +kernel
theorem dL_law_188 : decode cL_law 188 = .ok (.invokevirtual 31, 3) := by decide +kernel
theorem dL_law_191 : decode cL_law 191 = .ok (.if_icmp .eq 255, 3) := by decide +kernel
theorem dL_law_194 : decode cL_law 194 = .ok (.iconst 0, 1) := by decide +kernel
theorem dL_law_195 : decode cL_law 195 = .ok (.ireturn, 1) := by decide +kernel
theorem dL_law_196 : decode cL_law 196 = .ok (.aload_n 1, 1) := by decide +kernel
theorem dL_law_197 : decode cL_law 197 = .ok (.invokevirtual 32, 3) := by decide +kernel
theorem dL_law_200 : decode cL_law 200 = .ok (.aload_n 2, 1) := by decide +kernel
theorem dL_law_201 : decode cL_law 201 = .ok (.invokevirtual 35, 3) := by decide +kernel
theorem dL_law_204 : decode cL_law 204 = .ok (.if_icmp .eq 242, 3) := by decide +kernel
theorem dL_law_207 : decode cL_law 207 = .ok (.iconst 0, 1) := by decide +kernel
theorem dL_law_208 : decode cL_law 208 = .ok (.ireturn, 1) := by decide +kernel
theorem dL_law_209 : decode cL_law 209 = .ok (.aload_n 1, 1) := by decide +kernel
theorem dL_law_210 : decode cL_law 210 = .ok (.aload_n 0, 1) := by decide +kernel
theorem dL_law_211 : decode cL_law 211 = .ok (.iload_n 3, 1) := by decide +kernel
theorem dL_law_212 : decode cL_law 212 = .ok (.iconst 1, 1) := by decide +kernel
theorem dL_law_213 : decode cL_law 213 = .ok (.iadd, 1) := by decide +kernel
theorem dL_law_214 : decode cL_law 214 = .ok (.iaload, 1) := by decide +kernel
theorem dL_law_215 : decode cL_law 215 = .ok (.aload_n 0, 1) := by decide +kernel
theorem dL_law_216 : decode cL_law 216 = .ok (.iload_n 3, 1) := by decide +kernel
theorem dL_law_217 : decode cL_law 217 = .ok (.iconst 2, 1) := by decide +kernel
theorem dL_law_218 : decode cL_law 218 = .ok (.iadd, 1) := by decide +kernel
theorem dL_law_219 : decode cL_law 219 = .ok (.iaload, 1) := by decide +kernel
theorem dL_law_220 : decode cL_law 220 = .ok (.invokevirtual 36, 3) := by decide +kernel
theorem dL_law_223 : decode cL_law 223 = .ok (.aload_n 2, 1) := by decide +kernel
theorem dL_law_224 : decode cL_law 224 = .ok (.aload_n 0, 1) := by decide +kernel
theorem dL_law_225 : decode cL_law 225 = .ok (.iload_n 3, 1) := by decide +kernel
theorem dL_law_226 : decode cL_law 226 = .ok (.iconst 1, 1) := by decide +kernel
theorem dL_law_227 : decode cL_law 227 = .ok (.iadd, 1) := by decide +kernel
theorem dL_law_228 : decode cL_law 228 = .ok (.iaload, 1) := by decide +kernel
theorem dL_law_229 : decode cL_law 229 = .ok (.aload_n 0, 1) := by decide +kernel
theorem dL_law_230 : decode cL_law 230 = .ok (.iload_n 3, 1) := by decide +kernel
theorem dL_law_231 : decode cL_law 231 = .ok (.iconst 2, 1) := by decide +kernel
theorem dL_law_232 : decode cL_law 232 = .ok (.iadd, 1) := by decide +kernel
theorem dL_law_233 : decode cL_law 233 = .ok (.iaload, 1) := by decide +kernel
end
section
set_option maxRecDepth 100000
theorem dL_law_234 : decode cL_law 234 = .ok (.invokevirtual 40, 3) := by decide +kernel
theorem dL_law_237 : decode cL_law 237 = .ok (.if_icmp .eq 209, 3) := by decide +kernel
theorem dL_law_240 : decode cL_law 240 = .ok (.iconst 0, 1) := by decide +kernel
theorem dL_law_241 : decode cL_law 241 = .ok (.ireturn, 1) := by decide +kernel
theorem dL_law_242 : decode cL_law 242 = .ok (.aload_n 1, 1) := by decide +kernel
theorem dL_law_243 : decode cL_law 243 = .ok (.aload_n 0, 1) := by decide +kernel
theorem dL_law_244 : decode cL_law 244 = .ok (.iload_n 3, 1) := by decide +kernel
theorem dL_law_245 : decode cL_law 245 = .ok (.iconst 1, 1) := by decide +kernel
theorem dL_law_246 : decode cL_law 246 = .ok (.iadd, 1) := by decide +kernel
theorem dL_law_247 : decode cL_law 247 = .ok (.iaload, 1) := by decide +kernel
theorem dL_law_248 : decode cL_law 248 = .ok (.invokevirtual 41, 3) := by decide +kernel
theorem dL_law_251 : decode cL_law 251 = .ok (.aload_n 2, 1) := by decide +kernel
theorem dL_law_252 : decode cL_law 252 = .ok (.aload_n 0, 1) := by decide +kernel
theorem dL_law_253 : decode cL_law 253 = .ok (.iload_n 3, 1) := by decide +kernel
theorem dL_law_254 : decode cL_law 254 = .ok (.iconst 1, 1) := by decide +kernel
theorem dL_law_255 : decode cL_law 255 = .ok (.iadd, 1) := by decide +kernel
theorem dL_law_256 : decode cL_law 256 = .ok (.iaload, 1) := by decide +kernel
theorem dL_law_257 : decode cL_law 257 = .ok (.invokevirtual 44, 3) := by decide +kernel
theorem dL_law_260 : decode cL_law 260 = .ok (.if_icmp .eq 186, 3) := by decide +kernel
theorem dL_law_263 : decode cL_law 263 = .ok (.iconst 0, 1) := by decide +kernel
theorem dL_law_264 : decode cL_law 264 = .ok (.ireturn, 1) := by decide +kernel
theorem dL_law_265 : decode cL_law 265 = .ok (.aload_n 1, 1) := by decide +kernel
theorem dL_law_266 : decode cL_law 266 = .ok (.aload_n 0, 1) := by decide +kernel
theorem dL_law_267 : decode cL_law 267 = .ok (.iload_n 3, 1) := by decide +kernel
theorem dL_law_268 : decode cL_law 268 = .ok (.iconst 1, 1) := by decide +kernel
theorem dL_law_269 : decode cL_law 269 = .ok (.iadd, 1) := by decide +kernel
theorem dL_law_270 : decode cL_law 270 = .ok (.iaload, 1) := by decide +kernel
theorem dL_law_271 : decode cL_law 271 = .ok (.aload_n 0, 1) := by decide +kernel
theorem dL_law_272 : decode cL_law 272 = .ok (.iload_n 3, 1) := by decide +kernel
theorem dL_law_273 : decode cL_law 273 = .ok (.iconst 2, 1) := by decide +kernel
theorem dL_law_274 : decode cL_law 274 = .ok (.iadd, 1) := by decide +kernel
theorem dL_law_275 : decode cL_law 275 = .ok (.iaload, 1) := by decide +kernel
theorem dL_law_276 : decode cL_law 276 = .ok (.invokevirtual 45, 3) := by decide +kernel
theorem dL_law_279 : decode cL_law 279 = .ok (.aload_n 2, 1) := by decide +kernel
theorem dL_law_280 : decode cL_law 280 = .ok (.aload_n 0, 1) := by decide +kernel
theorem dL_law_281 : decode cL_law 281 = .ok (.iload_n 3, 1) := by decide +kernel
theorem dL_law_282 : decode cL_law 282 = .ok (.iconst 1, 1) := by decide +kernel
theorem dL_law_283 : decode cL_law 283 = .ok (.iadd, 1) := by decide +kernel
theorem dL_law_284 : decode cL_law 284 = .ok (.iaload, 1) := by decide +kernel
theorem dL_law_285 : decode cL_law 285 = .ok (.aload_n 0, 1) := by decide +kernel
theorem dL_law_286 : decode cL_law 286 = .ok (.iload_n 3, 1) := by decide +kernel
theorem dL_law_287 : decode cL_law 287 = .ok (.iconst 2, 1) := by decide +kernel
theorem dL_law_288 : decode cL_law 288 = .ok (.iadd, 1) := by decide +kernel
theorem dL_law_289 : decode cL_law 289 = .ok (.iaload, 1) := by decide +kernel
theorem dL_law_290 : decode cL_law 290 = .ok (.invokevirtual 48, 3) := by decide +kernel
theorem dL_law_293 : decode cL_law 293 = .ok (.if_icmp .eq 153, 3) := by decide +kernel
theorem dL_law_296 : decode cL_law 296 = .ok (.iconst 0, 1) := by decide +kernel
theorem dL_law_297 : decode cL_law 297 = .ok (.ireturn, 1) := by decide +kernel
theorem dL_law_298 : decode cL_law 298 = .ok (.aload_n 1, 1) := by decide +kernel
theorem dL_law_299 : decode cL_law 299 = .ok (.aload_n 0, 1) := by decide +kernel
theorem dL_law_300 : decode cL_law 300 = .ok (.iload_n 3, 1) := by decide +kernel
theorem dL_law_301 : decode cL_law 301 = .ok (.iconst 1, 1) := by decide +kernel
theorem dL_law_302 : decode cL_law 302 = .ok (.iadd, 1) := by decide +kernel
theorem dL_law_303 : decode cL_law 303 = .ok (.iaload, 1) := by decide +kernel
theorem dL_law_304 : decode cL_law 304 = .ok (.aload_n 0, 1) := by decide +kernel
theorem dL_law_305 : decode cL_law 305 = .ok (.iload_n 3, 1) := by decide +kernel
theorem dL_law_306 : decode cL_law 306 = .ok (.iconst 2, 1) := by decide +kernel
theorem dL_law_307 : decode cL_law 307 = .ok (.iadd, 1) := by decide +kernel
theorem dL_law_308 : decode cL_law 308 = .ok (.iaload, 1) := by decide +kernel
theorem dL_law_309 : decode cL_law 309 = .ok (.invokevirtual 49, 3) := by decide +kernel
end
section
set_option maxRecDepth 100000
theorem dL_law_312 : decode cL_law 312 = .ok (.aload_n 2, 1) := by decide +kernel
theorem dL_law_313 : decode cL_law 313 = .ok (.aload_n 0, 1) := by decide +kernel
theorem dL_law_314 : decode cL_law 314 = .ok (.iload_n 3, 1) := by decide +kernel
theorem dL_law_315 : decode cL_law 315 = .ok (.iconst 1, 1) := by decide +kernel
theorem dL_law_316 : decode cL_law 316 = .ok (.iadd, 1) := by decide +kernel
theorem dL_law_317 : decode cL_law 317 = .ok (.iaload, 1) := by decide +kernel
theorem dL_law_318 : decode cL_law 318 = .ok (.aload_n 0, 1) := by decide +kernel
theorem dL_law_319 : decode cL_law 319 = .ok (.iload_n 3, 1) := by decide +kernel
theorem dL_law_320 : decode cL_law 320 = .ok (.iconst 2, 1) := by decide +kernel
theorem dL_law_321 : decode cL_law 321 = .ok (.iadd, 1) := by decide +kernel
theorem dL_law_322 : decode cL_law 322 = .ok (.iaload, 1) := by decide +kernel
theorem dL_law_323 : decode cL_law 323 = .ok (.invokevirtual 52, 3) := by decide +kernel
theorem dL_law_326 : decode cL_law 326 = .ok (.if_icmp .eq 120, 3) := by decide +kernel
theorem dL_law_329 : decode cL_law 329 = .ok (.iconst 0, 1) := by decide +kernel
theorem dL_law_330 : decode cL_law 330 = .ok (.ireturn, 1) := by decide +kernel
theorem dL_law_331 : decode cL_law 331 = .ok (.aload_n 1, 1) := by decide +kernel
theorem dL_law_332 : decode cL_law 332 = .ok (.aload_n 0, 1) := by decide +kernel
theorem dL_law_333 : decode cL_law 333 = .ok (.iload_n 3, 1) := by decide +kernel
theorem dL_law_334 : decode cL_law 334 = .ok (.iconst 1, 1) := by decide +kernel
theorem dL_law_335 : decode cL_law 335 = .ok (.iadd, 1) := by decide +kernel
theorem dL_law_336 : decode cL_law 336 = .ok (.iaload, 1) := by decide +kernel
theorem dL_law_337 : decode cL_law 337 = .ok (.aload_n 0, 1) := by decide +kernel
theorem dL_law_338 : decode cL_law 338 = .ok (.iload_n 3, 1) := by decide +kernel
theorem dL_law_339 : decode cL_law 339 = .ok (.iconst 2, 1) := by decide +kernel
theorem dL_law_340 : decode cL_law 340 = .ok (.iadd, 1) := by decide +kernel
theorem dL_law_341 : decode cL_law 341 = .ok (.iaload, 1) := by decide +kernel
theorem dL_law_342 : decode cL_law 342 = .ok (.invokevirtual 53, 3) := by decide +kernel
theorem dL_law_345 : decode cL_law 345 = .ok (.aload_n 2, 1) := by decide +kernel
theorem dL_law_346 : decode cL_law 346 = .ok (.aload_n 0, 1) := by decide +kernel
theorem dL_law_347 : decode cL_law 347 = .ok (.iload_n 3, 1) := by decide +kernel
theorem dL_law_348 : decode cL_law 348 = .ok (.iconst 1, 1) := by decide +kernel
theorem dL_law_349 : decode cL_law 349 = .ok (.iadd, 1) := by decide +kernel
theorem dL_law_350 : decode cL_law 350 = .ok (.iaload, 1) := by decide +kernel
theorem dL_law_351 : decode cL_law 351 = .ok (.aload_n 0, 1) := by decide +kernel
theorem dL_law_352 : decode cL_law 352 = .ok (.iload_n 3, 1) := by decide +kernel
theorem dL_law_353 : decode cL_law 353 = .ok (.iconst 2, 1) := by decide +kernel
theorem dL_law_354 : decode cL_law 354 = .ok (.iadd, 1) := by decide +kernel
theorem dL_law_355 : decode cL_law 355 = .ok (.iaload, 1) := by decide +kernel
theorem dL_law_356 : decode cL_law 356 = .ok (.invokevirtual 56, 3) := by decide +kernel
theorem dL_law_359 : decode cL_law 359 = .ok (.if_icmp .eq 87, 3) := by decide +kernel
theorem dL_law_362 : decode cL_law 362 = .ok (.iconst 0, 1) := by decide +kernel
theorem dL_law_363 : decode cL_law 363 = .ok (.ireturn, 1) := by decide +kernel
theorem dL_law_364 : decode cL_law 364 = .ok (.aload_n 1, 1) := by decide +kernel
theorem dL_law_365 : decode cL_law 365 = .ok (.aload_n 0, 1) := by decide +kernel
theorem dL_law_366 : decode cL_law 366 = .ok (.iload_n 3, 1) := by decide +kernel
theorem dL_law_367 : decode cL_law 367 = .ok (.iconst 1, 1) := by decide +kernel
theorem dL_law_368 : decode cL_law 368 = .ok (.iadd, 1) := by decide +kernel
theorem dL_law_369 : decode cL_law 369 = .ok (.iaload, 1) := by decide +kernel
theorem dL_law_370 : decode cL_law 370 = .ok (.invokevirtual 57, 3) := by decide +kernel
theorem dL_law_373 : decode cL_law 373 = .ok (.aload_n 2, 1) := by decide +kernel
theorem dL_law_374 : decode cL_law 374 = .ok (.aload_n 0, 1) := by decide +kernel
theorem dL_law_375 : decode cL_law 375 = .ok (.iload_n 3, 1) := by decide +kernel
theorem dL_law_376 : decode cL_law 376 = .ok (.iconst 1, 1) := by decide +kernel
theorem dL_law_377 : decode cL_law 377 = .ok (.iadd, 1) := by decide +kernel
theorem dL_law_378 : decode cL_law 378 = .ok (.iaload, 1) := by decide +kernel
theorem dL_law_379 : decode cL_law 379 = .ok (.invokevirtual 60, 3) := by decide +kernel
theorem dL_law_382 : decode cL_law 382 = .ok (.if_icmp .eq 64, 3) := by decide +kernel
theorem dL_law_385 : decode cL_law 385 = .ok (.iconst 0, 1) := by decide +kernel
theorem dL_law_386 : decode cL_law 386 = .ok (.ireturn, 1) := by decide +kernel
theorem dL_law_387 : decode cL_law 387 = .ok (.aload_n 1, 1) := by decide +kernel
end
section
set_option maxRecDepth 100000
theorem dL_law_388 : decode cL_law 388 = .ok (.invokevirtual 61, 3) := by decide +kernel
theorem dL_law_391 : decode cL_law 391 = .ok (.aload_n 2, 1) := by decide +kernel
theorem dL_law_392 : decode cL_law 392 = .ok (.invokevirtual 64, 3) := by decide +kernel
theorem dL_law_395 : decode cL_law 395 = .ok (.if_icmp .eq 51, 3) := by decide +kernel
theorem dL_law_398 : decode cL_law 398 = .ok (.iconst 0, 1) := by decide +kernel
theorem dL_law_399 : decode cL_law 399 = .ok (.ireturn, 1) := by decide +kernel
theorem dL_law_400 : decode cL_law 400 = .ok (.aload_n 1, 1) := by decide +kernel
theorem dL_law_401 : decode cL_law 401 = .ok (.aload_n 0, 1) := by decide +kernel
theorem dL_law_402 : decode cL_law 402 = .ok (.iload_n 3, 1) := by decide +kernel
theorem dL_law_403 : decode cL_law 403 = .ok (.iconst 1, 1) := by decide +kernel
theorem dL_law_404 : decode cL_law 404 = .ok (.iadd, 1) := by decide +kernel
theorem dL_law_405 : decode cL_law 405 = .ok (.iaload, 1) := by decide +kernel
theorem dL_law_406 : decode cL_law 406 = .ok (.aload_n 0, 1) := by decide +kernel
theorem dL_law_407 : decode cL_law 407 = .ok (.iload_n 3, 1) := by decide +kernel
theorem dL_law_408 : decode cL_law 408 = .ok (.iconst 2, 1) := by decide +kernel
theorem dL_law_409 : decode cL_law 409 = .ok (.iadd, 1) := by decide +kernel
theorem dL_law_410 : decode cL_law 410 = .ok (.iaload, 1) := by decide +kernel
theorem dL_law_411 : decode cL_law 411 = .ok (.invokevirtual 65, 3) := by decide +kernel
theorem dL_law_414 : decode cL_law 414 = .ok (.aload_n 2, 1) := by decide +kernel
theorem dL_law_415 : decode cL_law 415 = .ok (.aload_n 0, 1) := by decide +kernel
theorem dL_law_416 : decode cL_law 416 = .ok (.iload_n 3, 1) := by decide +kernel
theorem dL_law_417 : decode cL_law 417 = .ok (.iconst 1, 1) := by decide +kernel
theorem dL_law_418 : decode cL_law 418 = .ok (.iadd, 1) := by decide +kernel
theorem dL_law_419 : decode cL_law 419 = .ok (.iaload, 1) := by decide +kernel
theorem dL_law_420 : decode cL_law 420 = .ok (.aload_n 0, 1) := by decide +kernel
theorem dL_law_421 : decode cL_law 421 = .ok (.iload_n 3, 1) := by decide +kernel
theorem dL_law_422 : decode cL_law 422 = .ok (.iconst 2, 1) := by decide +kernel
theorem dL_law_423 : decode cL_law 423 = .ok (.iadd, 1) := by decide +kernel
theorem dL_law_424 : decode cL_law 424 = .ok (.iaload, 1) := by decide +kernel
theorem dL_law_425 : decode cL_law 425 = .ok (.invokevirtual 68, 3) := by decide +kernel
theorem dL_law_428 : decode cL_law 428 = .ok (.if_icmp .eq 18, 3) := by decide +kernel
theorem dL_law_431 : decode cL_law 431 = .ok (.iconst 0, 1) := by decide +kernel
theorem dL_law_432 : decode cL_law 432 = .ok (.ireturn, 1) := by decide +kernel
theorem dL_law_433 : decode cL_law 433 = .ok (.aload_n 1, 1) := by decide +kernel
theorem dL_law_434 : decode cL_law 434 = .ok (.invokevirtual 69, 3) := by decide +kernel
theorem dL_law_437 : decode cL_law 437 = .ok (.aload_n 2, 1) := by decide +kernel
theorem dL_law_438 : decode cL_law 438 = .ok (.invokevirtual 72, 3) := by decide +kernel
theorem dL_law_441 : decode cL_law 441 = .ok (.if_icmp .eq 5, 3) := by decide +kernel
theorem dL_law_444 : decode cL_law 444 = .ok (.iconst 0, 1) := by decide +kernel
theorem dL_law_445 : decode cL_law 445 = .ok (.ireturn, 1) := by decide +kernel
theorem dL_law_446 : decode cL_law 446 = .ok (.iinc 3 4, 3) := by decide +kernel
theorem dL_law_449 : decode cL_law 449 = .ok (.goto (-431), 3) := by decide +kernel
theorem dL_law_452 : decode cL_law 452 = .ok (.iconst 1, 1) := by decide +kernel
theorem dL_law_453 : decode cL_law 453 = .ok (.ireturn, 1) := by decide +kernel
end
section
/-! NUMBERS: Prop answers as ints, naturals as ints, bits, sets as naturals (no program in sight) -/
/-- 1 or 0, by a Prop -/
noncomputable def cd_b (P : Prop) : Int32 := @ite Int32 P (Classical.propDecidable P) (nI 1) (nI 0)
theorem cd_b1 {P : Prop} (h : P) : cd_b P = nI 1 := if_pos h
theorem cd_b0 {P : Prop} (h : ¬ P) : cd_b P = nI 0 := if_neg h
theorem cd_bc {P Q : Prop} (h : P ↔ Q) : cd_b P = cd_b Q := by rw [propext h]
theorem cd_bn (P : Prop) : cd_b P = nI 1 ∨ cd_b P = nI 0 := by
  by_cases h : P
  · exact Or.inl (cd_b1 h)
  · exact Or.inr (cd_b0 h)
theorem cd_bz {P : Prop} : cd_b P = 0 ↔ ¬ P := by
  by_cases h : P
  · rw [cd_b1 h]; exact ⟨fun e => absurd e (by decide), fun e => absurd h e⟩
  · rw [cd_b0 h]; exact ⟨fun _ => h, fun _ => by decide⟩
theorem cd_bq {P Q : Prop} : cd_b P = cd_b Q ↔ (P ↔ Q) := by
  by_cases h : P
  · by_cases k : Q
    · rw [cd_b1 h, cd_b1 k]; exact ⟨fun _ => ⟨fun _ => k, fun _ => h⟩, fun _ => rfl⟩
    · rw [cd_b1 h, cd_b0 k]; exact ⟨fun e => absurd e (by decide), fun e => absurd (e.mp h) k⟩
  · by_cases k : Q
    · rw [cd_b0 h, cd_b1 k]; exact ⟨fun e => absurd e (by decide), fun e => absurd (e.mpr k) h⟩
    · rw [cd_b0 h, cd_b0 k]; exact ⟨fun _ => ⟨fun z => absurd z h, fun z => absurd z k⟩, fun _ => rfl⟩
theorem cd_bq1 {P : Prop} : cd_b P = nI 1 ↔ P := by
  rw [← cd_b1 trivial, cd_bq]; exact ⟨fun h => h.mpr trivial, fun h => ⟨fun _ => trivial, fun _ => h⟩⟩
theorem cd_bq0 {P : Prop} : cd_b P = nI 0 ↔ ¬ P := by
  rw [← cd_b0 (P := False) (fun h => h), cd_bq]; exact ⟨fun h => h.mp, fun h => ⟨h, fun z => z.elim⟩⟩
theorem cd_nar (P : Prop) : narrow .boolean (.int (cd_b P)) = .int (cd_b P) := by
  rcases cd_bn P with e | e <;> rw [e] <;> rfl
theorem cd_fit (P : Prop) : fits .boolean (.int (cd_b P)) = true := by
  rcases cd_bn P with e | e <;> rw [e] <;> decide
theorem cd_vnar (P : Prop) : vp_nar .boolean (cd_b P) = cd_b P := by
  rcases cd_bn P with e | e <;> rw [e] <;> rfl
/-- the bits of nI n -/
theorem cd_bt {n : Nat} {i : Nat} (hi : i < 32) : (nI n).toBitVec.getLsbD i = n.testBit i := by
  show (BitVec.ofNat 32 n).getLsbD i = _
  rw [BitVec.getLsbD_ofNat]; simp [hi]
theorem cd_ext {x y : Int32} (h : ∀ i, i < 32 → x.toBitVec.getLsbD i = y.toBitVec.getLsbD i) : x = y := Int32.toBitVec_inj.mp (BitVec.eq_of_getLsbD_eq (fun i hi => h i hi))
theorem cd_and (a b : Nat) : nI a &&& nI b = nI (a &&& b) := by
  apply cd_ext
  intro i hi
  rw [Int32.toBitVec_and, BitVec.getLsbD_and, cd_bt hi, cd_bt hi, cd_bt hi, Nat.testBit_and]
theorem cd_or (a b : Nat) : nI a ||| nI b = nI (a ||| b) := by
  apply cd_ext
  intro i hi
  rw [Int32.toBitVec_or, BitVec.getLsbD_or, cd_bt hi, cd_bt hi, cd_bt hi, Nat.testBit_or]
/-- a without b -/
def cd_df (a b : Nat) : Nat := a ^^^ (a &&& b)
theorem cd_df_bit (a b i : Nat) : (cd_df a b).testBit i = (a.testBit i && !b.testBit i) := by
  unfold cd_df
  rw [Nat.testBit_xor, Nat.testBit_and]
  cases a.testBit i <;> cases b.testBit i <;> rfl
theorem cd_m1 : ∀ i, i < 32 → (-1 : Int32).toBitVec.getLsbD i = true := by decide +kernel
theorem cd_andn (a b : Nat) : nI a &&& (nI b ^^^ (-1)) = nI (cd_df a b) := by
  apply cd_ext
  intro i hi
  rw [Int32.toBitVec_and, BitVec.getLsbD_and, Int32.toBitVec_xor, BitVec.getLsbD_xor, cd_bt hi, cd_bt hi, cd_bt hi, cd_m1 i hi, cd_df_bit]
  cases a.testBit i <;> cases b.testBit i <;> rfl
theorem cd_sl : ∀ n, n < 32 → ((nI n &&& 31).toBitVec.smod 32).toNat = n := by decide +kernel
theorem cd_shl {k : Nat} (hk : k < 31) : nI 1 <<< (nI k &&& 31) = nI (2 ^ k) := by
  have h : 2 ^ k < 2 ^ 31 := Nat.pow_lt_pow_right (by decide) hk
  rw [pk_shlN (n := 1) _ k (cd_sl k (by omega)) (by omega), Nat.one_mul]
/-- bit k of an int, as the machine gets it -/
def cd_tb (x : Int32) (k : Nat) : Prop := x.toBitVec.getLsbD k = true
theorem cd_one : ∀ i, i < 32 → (nI 1).toBitVec.getLsbD i = decide (i = 0) := by decide +kernel
theorem cd_bitN (x : Int32) {k : Nat} (hk : k < 32) : (x >>> (nI k &&& 31)) &&& nI 1 = nI (x.toBitVec.getLsbD k).toNat := by
  apply cd_ext
  intro i hi
  rw [Int32.toBitVec_and, BitVec.getLsbD_and, cd_one i hi, cd_bt hi, Int32.toBitVec_shiftRight]
  show ((x.toBitVec.sshiftRight ((nI k &&& 31).toBitVec.smod 32).toNat).getLsbD i && _) = _
  rw [cd_sl k hk, BitVec.getLsbD_sshiftRight]
  rcases Nat.eq_zero_or_pos i with e | e
  · subst e
    have hk2 : k + 0 < 32 := hk
    cases hx : x.toBitVec.getLsbD k <;> simp [hx, hk, hk2]
  · have e2 : ¬ i = 0 := by omega
    cases hx : x.toBitVec.getLsbD k
    · simp [e2]
    · have : Nat.testBit 1 i = false := Nat.testBit_lt_two_pow (x := 1) (i := i) (Nat.one_lt_two_pow e2)
      simp [e2, this]
theorem cd_bit1 (x : Int32) {k : Nat} (hk : k < 32) : (x >>> (nI k &&& 31)) &&& nI 1 = cd_b (cd_tb x k) := by
  rw [cd_bitN x hk]
  cases h : x.toBitVec.getLsbD k
  · exact (cd_b0 (by unfold cd_tb; rw [h]; exact fun z => by cases z)).symm
  · exact (cd_b1 h).symm
theorem cd_tbN {n k : Nat} (hk : k < 32) : cd_tb (nI n) k ↔ n.testBit k = true := by
  unfold cd_tb; rw [cd_bt hk]
theorem cd_bitNN {n : Nat} {k : Nat} (hk : k < 32) : (nI n >>> (nI k &&& 31)) &&& nI 1 = nI (n.testBit k).toNat := by
  rw [cd_bitN _ hk, cd_bt hk]
/-- any int under the mask of n ones -/
def cd_mo (x : Int32) (n : Nat) : Nat := x.toBitVec.toNat % 2 ^ n
theorem cd_mo_lt (x : Int32) (n : Nat) : cd_mo x n < 2 ^ n := Nat.mod_lt _ (Nat.two_pow_pos n)
theorem cd_p11 {n : Nat} (h : n ≤ 11) : 2 ^ n ≤ 2048 := Nat.pow_le_pow_right (by decide) h
theorem cd_p1 (n : Nat) : 1 ≤ 2 ^ n := Nat.two_pow_pos n
theorem cd_mask (x : Int32) {n : Nat} (h : n ≤ 11) : x &&& nI (2 ^ n - 1) = nI (cd_mo x n) := by
  have := cd_p11 h
  exact pk_and x n (pk_tn (by omega))
theorem cd_mo_bit (x : Int32) {n i : Nat} (hn : n ≤ 11) : (cd_mo x n).testBit i = true ↔ i < n ∧ cd_tb x i := by
  unfold cd_mo cd_tb
  rw [Nat.testBit_mod_two_pow]
  show (decide (i < n) && x.toBitVec.toNat.testBit i) = true ↔ _
  rw [BitVec.testBit_toNat]
  simp
theorem cd_i2b : ∀ v, v < 128 → (nI v).toInt8.toInt32 = nI v := by decide +kernel
theorem cd_vb : ∀ v, v < 128 → vp_nar .byte (nI v) = nI v := by
  intro v hv
  rw [vp_nar_byte, cd_i2b v hv]
theorem cd_i2s {v : Nat} (h : v < 32768) : (nI v).toInt16.toInt32 = nI v := by
  apply Int32.toInt_inj.mp
  rw [Int16.toInt_toInt32, Int32.toInt_toInt16, nI_toInt (by omega), Int.bmod_eq_of_le (by omega) (by omega)]
theorem cd_vs {v : Nat} (h : v < 32768) : vp_nar .short (nI v) = nI v := by
  rw [vp_nar_short, cd_i2s h]
/-- the place of an int in a list of n -/
theorem cd_ix {x : Int32} {n : Nat} (hn : n ≤ 11) (h : ¬ (x < 0 ∨ nI n ≤ x)) : ∃ j : Nat, j < n ∧ x = nI j := by
  rcases pk_ix x (n := n) (by omega) with q | q | q
  · exact absurd (Or.inl q) h
  · exact absurd (Or.inr q) h
  · exact q
theorem cd_ixn {j n : Nat} (hn : n ≤ 11) (h : j < n) : ¬ (nI j < 0 ∨ nI n ≤ nI j) := by
  rintro (q | q)
  · exact nI_pos (by omega) q
  · exact nI_ge h (by omega) q
/-- an answer asked at a place of the list, -1 outside it -/
def cd_gd (n : Nat) (x : Int32) (v : Nat → Int32 → Prop) (r : Int32) : Prop := ((x < 0 ∨ nI n ≤ x) ∧ r = -1) ∨ ∃ j, j < n ∧ x = nI j ∧ v j r
theorem cd_gd_bad {n : Nat} {x : Int32} {v : Nat → Int32 → Prop} (h : x < 0 ∨ nI n ≤ x) : cd_gd n x v (-1) := Or.inl ⟨h, rfl⟩
theorem cd_gd_in {n j : Nat} {v : Nat → Int32 → Prop} {r : Int32} (h : j < n) (hv : v j r) : cd_gd n (nI j) v r := Or.inr ⟨j, h, rfl, hv⟩
theorem cd_gd_one {n : Nat} (hn : n ≤ 11) {x : Int32} {v : Nat → Int32 → Prop} {r t : Int32} (hv : ∀ j a b, j < n → v j a → v j b → a = b) (h1 : cd_gd n x v r) (h2 : cd_gd n x v t) : r = t := by
  rcases h1 with ⟨a, e⟩ | ⟨j, hj, e, a⟩
  · rcases h2 with ⟨-, e2⟩ | ⟨k, hk, e2, -⟩
    · rw [e, e2]
    · subst e2; exact absurd a (cd_ixn hn hk)
  · subst e
    rcases h2 with ⟨a2, -⟩ | ⟨k, hk, e2, b⟩
    · exact absurd a2 (cd_ixn hn hj)
    · have := (nI_eq (by omega) (by omega)).mp e2
      subst this
      exact hv j r t hj a b
/-- sets: one in the other -/
def cd_sub (a b : Nat) : Prop := ∀ i, a.testBit i = true → b.testBit i = true
theorem cd_sub_rf (a : Nat) : cd_sub a a := fun _ h => h
theorem cd_sub_tr {a b c : Nat} (h : cd_sub a b) (k : cd_sub b c) : cd_sub a c := fun i z => k i (h i z)
theorem cd_sub_eq {a b : Nat} (h : cd_sub a b) (k : cd_sub b a) : a = b := by
  apply Nat.eq_of_testBit_eq
  intro i
  cases ha : a.testBit i <;> cases hb : b.testBit i
  · rfl
  · exact absurd (k i hb) (by rw [ha]; decide)
  · exact absurd (h i ha) (by rw [hb]; decide)
  · rfl
theorem cd_df0 {a b : Nat} : cd_df a b = 0 ↔ cd_sub a b := by
  constructor
  · intro h i hi
    have := cd_df_bit a b i
    rw [h, Nat.zero_testBit, hi] at this
    cases hb : b.testBit i
    · rw [hb] at this; exact absurd this (by decide)
    · rfl
  · intro h
    apply Nat.eq_of_testBit_eq
    intro i
    rw [cd_df_bit, Nat.zero_testBit]
    cases ha : a.testBit i
    · rfl
    · rw [h i ha]; rfl
theorem cd_df_lt {a b n : Nat} (h : a < 2 ^ n) : cd_df a b < 2 ^ n := Nat.xor_lt_two_pow h (by rw [Nat.and_comm]; exact Nat.and_lt_two_pow _ h)
theorem cd_bit_lt {a n i : Nat} (h : a < 2 ^ n) (hi : a.testBit i = true) : i < n := by
  rcases Nat.lt_or_ge i n with q | q
  · exact q
  · rw [Nat.testBit_lt_two_pow (Nat.lt_of_lt_of_le h (Nat.pow_le_pow_right (by decide) q))] at hi
    cases hi
theorem cd_lt_of {a n : Nat} (h : ∀ i, a.testBit i = true → i < n) : a < 2 ^ n := by
  apply Nat.lt_pow_two_of_testBit
  intro i hi
  cases ha : a.testBit i
  · rfl
  · exact absurd (h i ha) (by omega)
theorem cd_sub_lt {a b n : Nat} (h : cd_sub a b) (hb : b < 2 ^ n) : a < 2 ^ n := cd_lt_of (fun i hi => cd_bit_lt hb (h i hi))
theorem cd_sub_le {a b : Nat} (h : cd_sub a b) : a ≤ b := by
  have e : a = a &&& b := by
    apply Nat.eq_of_testBit_eq
    intro i
    rw [Nat.testBit_and]
    cases ha : a.testBit i
    · rfl
    · rw [h i ha]; rfl
  rw [e]
  exact Nat.and_le_right
theorem cd_or_bit (a k i : Nat) : (a ||| 2 ^ k).testBit i = true ↔ a.testBit i = true ∨ i = k := by
  rw [Nat.testBit_or, Nat.testBit_two_pow]
  simp only [Bool.or_eq_true, decide_eq_true_eq]
  exact or_congr Iff.rfl ⟨fun h => h.symm, fun h => h.symm⟩
theorem cd_or_bits (a b i : Nat) : (a ||| b).testBit i = true ↔ a.testBit i = true ∨ b.testBit i = true := by
  rw [Nat.testBit_or, Bool.or_eq_true]
theorem cd_and_bits (a b i : Nat) : (a &&& b).testBit i = true ↔ a.testBit i = true ∧ b.testBit i = true := by
  rw [Nat.testBit_and, Bool.and_eq_true]
theorem cd_pw_bit (k i : Nat) : (2 ^ k).testBit i = true ↔ i = k := by
  rw [Nat.testBit_two_pow]
  simp only [decide_eq_true_eq]
  exact ⟨fun h => h.symm, fun h => h.symm⟩
theorem cd_or_sub {a b c : Nat} (h : cd_sub a c) (k : cd_sub b c) : cd_sub (a ||| b) c := by
  intro i hi
  rcases (cd_or_bits a b i).mp hi with q | q
  · exact h i q
  · exact k i q
theorem cd_sub_or (a b : Nat) : cd_sub a (a ||| b) := fun i hi => (cd_or_bits a b i).mpr (Or.inl hi)
theorem cd_or_eq {a b : Nat} (h : a ||| b = a) : cd_sub b a := by
  intro i hi
  rw [← h]
  exact (cd_or_bits a b i).mpr (Or.inr hi)
theorem cd_lt_add {a k n : Nat} (ha : a < 2 ^ n) (hk : k < n) : a ||| 2 ^ k < 2 ^ n := Nat.or_lt_two_pow ha (Nat.pow_lt_pow_right (by decide) hk)
theorem cd_gt_add {a k : Nat} (h : ¬ a.testBit k = true) : a < a ||| 2 ^ k := by
  have h1 : a ≤ a ||| 2 ^ k := Nat.left_le_or
  rcases Nat.lt_or_eq_of_le h1 with q | q
  · exact q
  · exfalso
    apply h
    rw [q]
    exact (cd_or_bit a k k).mpr (Or.inr rfl)
theorem cd_sub_add {a b k : Nat} (h : cd_sub a b) (hk : b.testBit k = true) : cd_sub (a ||| 2 ^ k) b := by
  intro i hi
  rcases (cd_or_bit a k i).mp hi with q | q
  · exact h i q
  · rw [q]; exact hk
/-- the set of the places below n that have P -/
noncomputable def cd_mk (P : Nat → Prop) : Nat → Nat
  | 0 => 0
  | n + 1 => cd_mk P n ||| @ite Nat (P n) (Classical.propDecidable _) (2 ^ n) 0
theorem cd_mk_bit (P : Nat → Prop) : ∀ n i, (cd_mk P n).testBit i = true ↔ i < n ∧ P i
  | 0, i => by simp [cd_mk]
  | n + 1, i => by
    unfold cd_mk
    rw [cd_or_bits, cd_mk_bit P n i]
    by_cases h : P n
    · rw [if_pos h, cd_pw_bit]
      constructor
      · rintro (q | q)
        · exact ⟨by omega, q.2⟩
        · subst q; exact ⟨by omega, h⟩
      · rintro ⟨q1, q2⟩
        rcases Nat.lt_or_eq_of_le (Nat.le_of_lt_succ q1) with z | z
        · exact Or.inl ⟨z, q2⟩
        · exact Or.inr z
    · rw [if_neg h, Nat.zero_testBit]
      constructor
      · rintro (q | q)
        · exact ⟨by omega, q.2⟩
        · cases q
      · rintro ⟨q1, q2⟩
        rcases Nat.lt_or_eq_of_le (Nat.le_of_lt_succ q1) with z | z
        · exact Or.inl ⟨z, q2⟩
        · subst z; exact absurd q2 h
theorem cd_mk_lt (P : Nat → Prop) (n : Nat) : cd_mk P n < 2 ^ n := cd_lt_of (fun i hi => ((cd_mk_bit P n i).mp hi).1)
/-- how many below n have P -/
noncomputable def cd_ct (P : Nat → Prop) : Nat → Nat
  | 0 => 0
  | n + 1 => cd_ct P n + @ite Nat (P n) (Classical.propDecidable _) 1 0
theorem cd_ct_1 {P : Nat → Prop} {n : Nat} (h : P n) : cd_ct P (n + 1) = cd_ct P n + 1 := by rw [cd_ct, if_pos h]
theorem cd_ct_0 {P : Nat → Prop} {n : Nat} (h : ¬ P n) : cd_ct P (n + 1) = cd_ct P n := by
  rw [cd_ct, if_neg h, Nat.add_zero]
theorem cd_ct_le (P : Nat → Prop) : ∀ n, cd_ct P n ≤ n
  | 0 => Nat.le_refl _
  | n + 1 => by
    have := cd_ct_le P n
    by_cases h : P n
    · rw [cd_ct_1 h]; omega
    · rw [cd_ct_0 h]; omega
theorem cd_ct_df (P : Nat → Prop) (t : Nat) : ∀ k, cd_ct P (t + k) ≤ cd_ct P t + k
  | 0 => Nat.le_refl _
  | k + 1 => by
    have := cd_ct_df P t k
    rw [← Nat.add_assoc]
    by_cases h : P (t + k)
    · rw [cd_ct_1 h]; omega
    · rw [cd_ct_0 h]; omega
theorem cd_ct_cg {P Q : Nat → Prop} : ∀ n, (∀ i, i < n → (P i ↔ Q i)) → cd_ct P n = cd_ct Q n
  | 0, _ => rfl
  | n + 1, h => by
    have e := cd_ct_cg n (fun i hi => h i (by omega))
    by_cases z : P n
    · rw [cd_ct_1 z, cd_ct_1 ((h n (by omega)).mp z), e]
    · rw [cd_ct_0 z, cd_ct_0 (fun y => z ((h n (by omega)).mpr y)), e]
/-- how many bits below k -/
def cd_pc (s : Nat) : Nat → Nat
  | 0 => 0
  | k + 1 => cd_pc s k + (s.testBit k).toNat
theorem cd_pc_le (s : Nat) : ∀ k, cd_pc s k ≤ k
  | 0 => Nat.le_refl _
  | k + 1 => by
    have := cd_pc_le s k
    have h2 := Bool.toNat_le (s.testBit k)
    unfold cd_pc
    omega
theorem cd_pc_0 : ∀ k, cd_pc 0 k = 0
  | 0 => rfl
  | k + 1 => by unfold cd_pc; rw [cd_pc_0 k, Nat.zero_testBit]; rfl
/-- the next part of A below p: (p - 1) & A -/
theorem cd_next : ∀ (N p q A : Nat), p ≤ N → cd_sub p A → cd_sub q A → q < p → q ≤ (p - 1) &&& A := by
  intro N
  induction N with
  | zero => intro p q A h1 h2 h3 h4; omega
  | succ N ih =>
    intro p q A h1 h2 h3 h4
    have hd : ∀ {x : Nat}, cd_sub x A → cd_sub (x / 2) (A / 2) := by
      intro x hx i hi
      rw [Nat.testBit_div_two] at hi ⊢
      exact hx _ hi
    have h0 : ∀ {x : Nat}, cd_sub x A → x % 2 ≤ A % 2 := by
      intro x hx
      have := hx 0
      rw [Nat.testBit_zero, Nat.testBit_zero] at this
      simp only [decide_eq_true_eq] at this
      omega
    have e1 : ((p - 1) &&& A) / 2 = (p - 1) / 2 &&& A / 2 := Nat.and_div_two
    have e2 := Nat.div_add_mod ((p - 1) &&& A) 2
    rcases Nat.mod_two_eq_zero_or_one p with hp | hp
    · have a1 : (p - 1) / 2 = p / 2 - 1 := by omega
      have a2 := ih (p / 2) (q / 2) (A / 2) (by omega) (hd h2) (hd h3) (by omega)
      have a3 : ((p - 1) &&& A) % 2 = A % 2 := by
        have z := Nat.testBit_and (p - 1) A 0
        rw [Nat.testBit_zero, Nat.testBit_zero, Nat.testBit_zero, show (p - 1) % 2 = 1 by omega] at z
        simp only [decide_true, Bool.true_and, decide_eq_decide] at z
        omega
      have a4 := h0 h3
      rw [e1, a1] at e2
      omega
    · have a1 : (p - 1) / 2 = p / 2 := by omega
      have a2 : p / 2 &&& A / 2 = p / 2 := by
        apply Nat.eq_of_testBit_eq
        intro i
        rw [Nat.testBit_and]
        cases hi : (p / 2).testBit i
        · rfl
        · rw [hd h2 i hi]; rfl
      rw [e1, a1, a2] at e2
      omega
/-- one place of a list of numbers -/
def cd_up (f : Nat → Nat) (k v : Nat) : Nat → Nat := fun j => if j = k then v else f j
theorem cd_up_s (f : Nat → Nat) (k v : Nat) : cd_up f k v k = v := if_pos rfl
theorem cd_up_n (f : Nat → Nat) {k v j : Nat} (h : j ≠ k) : cd_up f k v j = f j := if_neg h
theorem cd_upd (f : Nat → Nat) (k v : Nat) : upd (fun j => nI (f j)) k (nI v) = fun j => nI (cd_up f k v j) := by
  funext j
  unfold upd cd_up
  by_cases h : j = k
  · rw [if_pos h, if_pos h]
  · rw [if_neg h, if_neg h]
def cd_upP (f : Nat → Prop) (k : Nat) (v : Prop) : Nat → Prop := fun j => (j = k ∧ v) ∨ (j ≠ k ∧ f j)
theorem cd_upP_s (f : Nat → Prop) (k : Nat) (v : Prop) : cd_upP f k v k ↔ v := ⟨fun h => h.elim (fun z => z.2) (fun z => absurd rfl z.1), fun h => Or.inl ⟨rfl, h⟩⟩
theorem cd_upP_n (f : Nat → Prop) {k j : Nat} {v : Prop} (h : j ≠ k) : cd_upP f k v j ↔ f j := ⟨fun z => z.elim (fun y => absurd y.1 h) (fun y => y.2), fun z => Or.inr ⟨h, z⟩⟩
theorem cd_updP (f : Nat → Prop) (k : Nat) (v : Prop) : upd (fun j => cd_b (f j)) k (cd_b v) = fun j => cd_b (cd_upP f k v j) := by
  funext j
  unfold upd
  by_cases h : j = k
  · rw [if_pos h, h]; exact (cd_bc (cd_upP_s f k v)).symm
  · rw [if_neg h]; exact (cd_bc (cd_upP_n f h)).symm
end
section
/-! LOGIC: saturated sets, what follows, the rules; no program in sight. n formulas, formula i of kind K i (0 and, 1 or, 2 implies, 3 atom, 4 falsum) with parts L i, R i -/
def cd_wf (n : Nat) (K L R : Nat → Nat) : Prop := n ≤ 11 ∧ ∀ i, i < n → K i ≤ 4 ∧ L i ≤ 10 ∧ R i ≤ 10 ∧ (K i ≤ 2 → L i < i ∧ R i < i)
/-- the set s keeps to its connectives at formula i -/
def cd_kp (K L R : Nat → Nat) (s i : Nat) : Prop :=
  (K i = 0 → (s.testBit i = true ↔ (s.testBit (L i) = true ∧ s.testBit (R i) = true))) ∧
  (K i = 1 → (s.testBit i = true ↔ (s.testBit (L i) = true ∨ s.testBit (R i) = true))) ∧
  (K i = 2 → (s.testBit i = true → s.testBit (L i) = true → s.testBit (R i) = true) ∧ (¬ s.testBit i = true → ¬ s.testBit (R i) = true)) ∧
  (K i = 4 → ¬ s.testBit i = true)
/-- saturated sets, by the number of sets above -/
def cd_wd (n : Nat) (K L R : Nat → Nat) : Nat → Nat → Prop
  | 0, _ => False
  | k + 1, s => (∀ i, i < n → cd_kp K L R s i) ∧ ∀ i, i < n → K i = 2 → ¬ s.testBit i = true → (s.testBit (L i) = true ∧ ¬ s.testBit (R i) = true) ∨ ∃ w, s < w ∧ w < 2 ^ n ∧ cd_wd n K L R k w ∧ cd_sub s w ∧ w.testBit (L i) = true ∧ ¬ w.testBit (R i) = true
def cd_W (n : Nat) (K L R : Nat → Nat) (s : Nat) : Prop := cd_wd n K L R (2 ^ n - s) s
theorem cd_wd_fuel (n : Nat) (K L R : Nat → Nat) : ∀ k k' s, 2 ^ n - s ≤ k → 2 ^ n - s ≤ k' → s < 2 ^ n → (cd_wd n K L R k s → cd_wd n K L R k' s) := by
  intro k
  induction k with
  | zero => intro k' s h1 h2 h3; omega
  | succ k ih =>
    intro k' s h1 h2 h3
    cases k' with
    | zero => omega
    | succ k' =>
      rintro ⟨a, b⟩
      refine ⟨a, fun i hi h4 h5 => ?_⟩
      rcases b i hi h4 h5 with q | ⟨w, w1, w2, w3, w4⟩
      · exact Or.inl q
      · exact Or.inr ⟨w, w1, w2, ih k' w (by omega) (by omega) w2 w3, w4⟩
theorem cd_W_eq {n : Nat} {K L R : Nat → Nat} {s : Nat} (hs : s < 2 ^ n) : cd_W n K L R s ↔ (∀ i, i < n → cd_kp K L R s i) ∧ ∀ i, i < n → K i = 2 → ¬ s.testBit i = true → (s.testBit (L i) = true ∧ ¬ s.testBit (R i) = true) ∨ ∃ w, s < w ∧ w < 2 ^ n ∧ cd_W n K L R w ∧ cd_sub s w ∧ w.testBit (L i) = true ∧ ¬ w.testBit (R i) = true := by
  obtain ⟨k, hk⟩ : ∃ k, 2 ^ n - s = k + 1 := ⟨2 ^ n - s - 1, by omega⟩
  unfold cd_W
  rw [hk]
  constructor
  · rintro ⟨a, b⟩
    refine ⟨a, fun i hi h4 h5 => ?_⟩
    rcases b i hi h4 h5 with q | ⟨w, w1, w2, w3, w4⟩
    · exact Or.inl q
    · exact Or.inr ⟨w, w1, w2, cd_wd_fuel n K L R k _ w (by omega) (by omega) w2 w3, w4⟩
  · rintro ⟨a, b⟩
    refine ⟨a, fun i hi h4 h5 => ?_⟩
    rcases b i hi h4 h5 with q | ⟨w, w1, w2, w3, w4⟩
    · exact Or.inl q
    · exact Or.inr ⟨w, w1, w2, cd_wd_fuel n K L R _ k w (by omega) (by omega) w2 w3, w4⟩
theorem cd_W_kp {n : Nat} {K L R : Nat → Nat} {s i : Nat} (hs : s < 2 ^ n) (h : cd_W n K L R s) (hi : i < n) : cd_kp K L R s i := ((cd_W_eq hs).mp h).1 i hi
theorem cd_W_up {n : Nat} {K L R : Nat → Nat} {s i : Nat} (hs : s < 2 ^ n) (h : cd_W n K L R s) (hi : i < n) (hk : K i = 2) (hn : ¬ s.testBit i = true) : ∃ w, w < 2 ^ n ∧ cd_W n K L R w ∧ cd_sub s w ∧ w.testBit (L i) = true ∧ ¬ w.testBit (R i) = true := by
  rcases ((cd_W_eq hs).mp h).2 i hi hk hn with q | ⟨w, w1, w2, w3, w4⟩
  · exact ⟨s, hs, h, cd_sub_rf s, q.1, q.2⟩
  · exact ⟨w, w2, w3, w4⟩
/-- what follows from a set: what all saturated sets above it have -/
noncomputable def cd_cl (n : Nat) (K L R : Nat → Nat) (S : Nat) : Nat := cd_mk (fun i => ∀ w, w < 2 ^ n → cd_W n K L R w → cd_sub S w → w.testBit i = true) n
section CdCl
variable {n : Nat} {K L R : Nat → Nat}
theorem cd_cl_bit {S i : Nat} : (cd_cl n K L R S).testBit i = true ↔ i < n ∧ ∀ w, w < 2 ^ n → cd_W n K L R w → cd_sub S w → w.testBit i = true := cd_mk_bit _ _ _
theorem cd_cl_lt (S : Nat) : cd_cl n K L R S < 2 ^ n := cd_mk_lt _ _
theorem cd_cl_sup {S : Nat} (hS : S < 2 ^ n) : cd_sub S (cd_cl n K L R S) := fun i hi => cd_cl_bit.mpr ⟨cd_bit_lt hS hi, fun _ _ _ h => h i hi⟩
theorem cd_cl_in {S w : Nat} (hw : w < 2 ^ n) (hW : cd_W n K L R w) (h : cd_sub S w) : cd_sub (cd_cl n K L R S) w := fun i hi => (cd_cl_bit.mp hi).2 w hw hW h
theorem cd_cl_mono {S T : Nat} (h : cd_sub S T) : cd_sub (cd_cl n K L R S) (cd_cl n K L R T) := fun i hi => cd_cl_bit.mpr ⟨(cd_cl_bit.mp hi).1, fun w a b c => (cd_cl_bit.mp hi).2 w a b (cd_sub_tr h c)⟩
theorem cd_cl_W {w : Nat} (hw : w < 2 ^ n) (hW : cd_W n K L R w) : cd_cl n K L R w = w := cd_sub_eq (cd_cl_in hw hW (cd_sub_rf w)) (cd_cl_sup hw)
end CdCl
/-- what follows from s with a, as the rules have it: now if a is there -/
def cd_wi (F : Nat → Nat) (s a now : Nat) : Nat := if s.testBit a = true then now else F (s ||| 2 ^ a)
/-- what formula i lets one add -/
def cd_more (n : Nat) (K L R F : Nat → Nat) (s now i : Nat) : Nat :=
  if K i = 4 then (if now.testBit i = true then 2 ^ n - 1 else 0)
  else if K i = 3 then 0
  else if K i = 0 then (if now.testBit i = true then 2 ^ L i ||| 2 ^ R i else if now &&& (2 ^ L i ||| 2 ^ R i) = 2 ^ L i ||| 2 ^ R i then 2 ^ i else 0)
  else if K i = 2 then (if now.testBit i = true ∧ now.testBit (L i) = true then (if (cd_wi F s (L i) now).testBit (R i) = true then 2 ^ i else 0) ||| 2 ^ R i else (if (cd_wi F s (L i) now).testBit (R i) = true then 2 ^ i else 0))
  else (if now.testBit i = true then (cd_wi F s (L i) now &&& cd_wi F s (R i) now) ||| (if now &&& (2 ^ L i ||| 2 ^ R i) = 0 then 0 else 2 ^ i) else (if now &&& (2 ^ L i ||| 2 ^ R i) = 0 then 0 else 2 ^ i))
theorem cd_both_all (x a b : Nat) : x &&& (2 ^ a ||| 2 ^ b) = 2 ^ a ||| 2 ^ b ↔ x.testBit a = true ∧ x.testBit b = true := by
  constructor
  · intro h
    have g : ∀ i, (2 ^ a ||| 2 ^ b).testBit i = true → x.testBit i = true := by
      intro i hi
      rw [← h] at hi
      exact ((cd_and_bits _ _ _).mp hi).1
    exact ⟨g a ((cd_or_bits _ _ _).mpr (Or.inl ((cd_pw_bit a a).mpr rfl))), g b ((cd_or_bits _ _ _).mpr (Or.inr ((cd_pw_bit b b).mpr rfl)))⟩
  · rintro ⟨h1, h2⟩
    apply cd_sub_eq
    · intro i hi
      exact ((cd_and_bits _ _ _).mp hi).2
    · intro i hi
      refine (cd_and_bits _ _ _).mpr ⟨?_, hi⟩
      rcases (cd_or_bits _ _ _).mp hi with q | q
      · rw [(cd_pw_bit _ _).mp q]; exact h1
      · rw [(cd_pw_bit _ _).mp q]; exact h2
theorem cd_and_0 (x y : Nat) : x &&& y = 0 ↔ ∀ i, x.testBit i = true → ¬ y.testBit i = true := by
  constructor
  · intro h i h1 h2
    have := (cd_and_bits x y i).mpr ⟨h1, h2⟩
    rw [h, Nat.zero_testBit] at this
    cases this
  · intro h
    apply cd_sub_eq
    · intro i hi
      obtain ⟨h1, h2⟩ := (cd_and_bits x y i).mp hi
      exact absurd h2 (h i h1)
    · intro i hi
      rw [Nat.zero_testBit] at hi
      cases hi
theorem cd_both_no (x a b : Nat) : x &&& (2 ^ a ||| 2 ^ b) = 0 ↔ ¬ x.testBit a = true ∧ ¬ x.testBit b = true := by
  rw [cd_and_0]
  constructor
  · intro h
    exact ⟨fun z => h a z ((cd_or_bits _ _ _).mpr (Or.inl ((cd_pw_bit a a).mpr rfl))), fun z => h b z ((cd_or_bits _ _ _).mpr (Or.inr ((cd_pw_bit b b).mpr rfl)))⟩
  · rintro ⟨h1, h2⟩ i hi z
    rcases (cd_or_bits _ _ _).mp z with q | q
    · rw [(cd_pw_bit _ _).mp q] at hi; exact h1 hi
    · rw [(cd_pw_bit _ _).mp q] at hi; exact h2 hi
section CdFix
variable {n : Nat} {K L R F : Nat → Nat} {S N : Nat}
/-- the answers of the rules as bits -/
theorem cd_more_bit {i j : Nat} (hK : K i ≤ 4) : (cd_more n K L R F S N i).testBit j = true ↔
    (K i = 4 ∧ N.testBit i = true ∧ j < n) ∨
    (K i = 0 ∧ N.testBit i = true ∧ (j = L i ∨ j = R i)) ∨ (K i = 0 ∧ ¬ N.testBit i = true ∧ N.testBit (L i) = true ∧ N.testBit (R i) = true ∧ j = i) ∨
    (K i = 2 ∧ N.testBit i = true ∧ N.testBit (L i) = true ∧ j = R i) ∨ (K i = 2 ∧ (cd_wi F S (L i) N).testBit (R i) = true ∧ j = i) ∨
    (K i = 1 ∧ N.testBit i = true ∧ (cd_wi F S (L i) N).testBit j = true ∧ (cd_wi F S (R i) N).testBit j = true) ∨ (K i = 1 ∧ (N.testBit (L i) = true ∨ N.testBit (R i) = true) ∧ j = i) := by
  have hz : ∀ {P : Prop}, (Nat.testBit 0 j = true ↔ P) ↔ ¬ P := by
    intro P
    rw [Nat.zero_testBit]
    exact ⟨fun h p => (by cases (h.mpr p)), fun h => ⟨fun z => (by cases z), fun p => absurd p h⟩⟩
  have key : ∀ {x : Prop}, (N &&& (2 ^ L i ||| 2 ^ R i) = 0) ∨ ¬ (N &&& (2 ^ L i ||| 2 ^ R i) = 0) := fun {_} => Classical.em _
  unfold cd_more
  rcases (show K i = 0 ∨ K i = 1 ∨ K i = 2 ∨ K i = 3 ∨ K i = 4 by omega) with e | e | e | e | e
  · rw [if_neg (by omega), if_neg (by omega), if_pos e]
    by_cases h : N.testBit i = true
    · rw [if_pos h, cd_or_bits, cd_pw_bit, cd_pw_bit]
      simp [e, h]
    · rw [if_neg h]
      by_cases h2 : N &&& (2 ^ L i ||| 2 ^ R i) = 2 ^ L i ||| 2 ^ R i
      · rw [if_pos h2, cd_pw_bit]
        have := (cd_both_all _ _ _).mp h2
        simp [e, h, this.1, this.2]
      · rw [if_neg h2, hz]
        rw [cd_both_all] at h2
        simp only [e, h]
        simp
        intro a b
        exact absurd ⟨a, b⟩ h2
  · rw [if_neg (by omega), if_neg (by omega), if_neg (by omega), if_neg (by omega)]
    have mid : (if N &&& (2 ^ L i ||| 2 ^ R i) = 0 then 0 else 2 ^ i).testBit j = true ↔ (N.testBit (L i) = true ∨ N.testBit (R i) = true) ∧ j = i := by
      by_cases h2 : N &&& (2 ^ L i ||| 2 ^ R i) = 0
      · rw [if_pos h2, hz]
        have := (cd_both_no _ _ _).mp h2
        simp [this.1, this.2]
      · rw [if_neg h2, cd_pw_bit]
        rw [cd_both_no] at h2
        constructor
        · intro q
          refine ⟨?_, q⟩
          by_cases z : N.testBit (L i) = true
          · exact Or.inl z
          · by_cases y : N.testBit (R i) = true
            · exact Or.inr y
            · exact absurd ⟨z, y⟩ h2
        · exact fun q => q.2
    by_cases h : N.testBit i = true
    · rw [if_pos h, cd_or_bits, cd_and_bits, mid]
      simp [e, h]
    · rw [if_neg h, mid]
      simp [e, h]
  · rw [if_neg (by omega), if_neg (by omega), if_neg (by omega), if_pos e]
    have mid : (if (cd_wi F S (L i) N).testBit (R i) = true then 2 ^ i else 0).testBit j = true ↔ (cd_wi F S (L i) N).testBit (R i) = true ∧ j = i := by
      by_cases h2 : (cd_wi F S (L i) N).testBit (R i) = true
      · rw [if_pos h2, cd_pw_bit]; simp [h2]
      · rw [if_neg h2, hz]; simp [h2]
    by_cases h : N.testBit i = true ∧ N.testBit (L i) = true
    · rw [if_pos h, cd_or_bits, mid, cd_pw_bit]
      simp [e, h.1, h.2]
      exact or_comm
    · rw [if_neg h, mid]
      constructor
      · intro q
        exact Or.inr (Or.inr (Or.inr (Or.inr (Or.inl ⟨e, q⟩))))
      · rintro (q | q | q | q | q | q | q)
        · omega
        · omega
        · omega
        · exact absurd ⟨q.2.1, q.2.2.1⟩ h
        · exact q.2
        · omega
        · omega
  · rw [if_neg (by omega), if_pos e, hz]
    simp [e]
  · rw [if_pos e]
    by_cases h : N.testBit i = true
    · rw [if_pos h, Nat.testBit_two_pow_sub_one]; simp [e, h]
    · rw [if_neg h, hz]; simp [e, h]
variable (hwf : cd_wf n K L R) (hS : S < 2 ^ n) (hF : ∀ T, S < T → T < 2 ^ n → F T = cd_cl n K L R T) (h1 : cd_sub S N) (h2 : cd_sub N (cd_cl n K L R S))
/-- above S with a, all that the rules take from it holds -/
theorem cd_wi_in {w a : Nat} (hwf : cd_wf n K L R) (hS : S < 2 ^ n) (hF : ∀ T, S < T → T < 2 ^ n → F T = cd_cl n K L R T) (h2 : cd_sub N (cd_cl n K L R S)) (ha : a < n) (hw : w < 2 ^ n) (hW : cd_W n K L R w) (hs : cd_sub S w) (hwa : w.testBit a = true) : cd_sub (cd_wi F S a N) w := by
  unfold cd_wi
  by_cases h : S.testBit a = true
  · rw [if_pos h]
    exact cd_sub_tr h2 (cd_cl_in hw hW hs)
  · rw [if_neg h, hF _ (cd_gt_add h) (cd_lt_add hS ha)]
    exact cd_cl_in hw hW (cd_sub_add hs hwa)
theorem cd_wi_lt {a : Nat} (hS : S < 2 ^ n) (hF : ∀ T, S < T → T < 2 ^ n → F T = cd_cl n K L R T) (h2 : cd_sub N (cd_cl n K L R S)) (ha : a < n) : cd_wi F S a N < 2 ^ n := by
  unfold cd_wi
  by_cases h : S.testBit a = true
  · rw [if_pos h]
    exact cd_sub_lt h2 (cd_cl_lt S)
  · rw [if_neg h, hF _ (cd_gt_add h) (cd_lt_add hS ha)]
    exact cd_cl_lt _
/-- the rules add only what follows -/
theorem cd_more_in {i : Nat} (hwf : cd_wf n K L R) (hS : S < 2 ^ n) (hF : ∀ T, S < T → T < 2 ^ n → F T = cd_cl n K L R T) (h2 : cd_sub N (cd_cl n K L R S)) (hi : i < n) : cd_sub (cd_more n K L R F S N i) (cd_cl n K L R S) := by
  obtain ⟨k4, -, -, kLR⟩ := hwf.2 i hi
  intro j hj
  have hNw : ∀ {w : Nat}, w < 2 ^ n → cd_W n K L R w → cd_sub S w → cd_sub N w := fun hw hW hs => cd_sub_tr h2 (cd_cl_in hw hW hs)
  rcases (cd_more_bit k4).mp hj with q | q | q | q | q | q | q
  · refine cd_cl_bit.mpr ⟨q.2.2, fun w hw hW hs => ?_⟩
    exact absurd (hNw hw hW hs i q.2.1) ((cd_W_kp hw hW hi).2.2.2 q.1)
  · have := kLR (by omega)
    refine cd_cl_bit.mpr ⟨by rcases q.2.2 with z | z <;> omega, fun w hw hW hs => ?_⟩
    have := ((cd_W_kp hw hW hi).1 q.1).mp (hNw hw hW hs i q.2.1)
    rcases q.2.2 with z | z
    · rw [z]; exact this.1
    · rw [z]; exact this.2
  · obtain ⟨e, -, a, b, z⟩ := q
    refine cd_cl_bit.mpr ⟨by omega, fun w hw hW hs => ?_⟩
    rw [z]
    exact ((cd_W_kp hw hW hi).1 e).mpr ⟨hNw hw hW hs _ a, hNw hw hW hs _ b⟩
  · obtain ⟨e, a, b, z⟩ := q
    have := kLR (by omega)
    refine cd_cl_bit.mpr ⟨by omega, fun w hw hW hs => ?_⟩
    rw [z]
    exact ((cd_W_kp hw hW hi).2.2.1 e).1 (hNw hw hW hs _ a) (hNw hw hW hs _ b)
  · obtain ⟨e, a, z⟩ := q
    have := kLR (by omega)
    refine cd_cl_bit.mpr ⟨by omega, fun w hw hW hs => ?_⟩
    rw [z]
    by_cases c : w.testBit i = true
    · exact c
    · obtain ⟨w2, g1, g2, g3, g4, g5⟩ := cd_W_up hw hW hi e c
      exact absurd (cd_wi_in hwf hS hF h2 (by omega) g1 g2 (cd_sub_tr hs g3) g4 _ a) g5
  · obtain ⟨e, a, b, c⟩ := q
    have := kLR (by omega)
    refine cd_cl_bit.mpr ⟨cd_bit_lt (cd_wi_lt hS hF h2 (by omega)) b, fun w hw hW hs => ?_⟩
    rcases ((cd_W_kp hw hW hi).2.1 e).mp (hNw hw hW hs _ a) with z | z
    · exact cd_wi_in hwf hS hF h2 (by omega) hw hW hs z _ b
    · exact cd_wi_in hwf hS hF h2 (by omega) hw hW hs z _ c
  · obtain ⟨e, a, z⟩ := q
    refine cd_cl_bit.mpr ⟨by omega, fun w hw hW hs => ?_⟩
    rw [z]
    refine ((cd_W_kp hw hW hi).2.1 e).mpr ?_
    rcases a with a | a
    · exact Or.inl (hNw hw hW hs _ a)
    · exact Or.inr (hNw hw hW hs _ a)
/-- a set that the rules add nothing to, with one side of each of its disjunctions and without falsum, is saturated -/
theorem cd_fix_W (hwf : cd_wf n K L R) (hS : S < 2 ^ n) (hF : ∀ T, S < T → T < 2 ^ n → F T = cd_cl n K L R T) (h1 : cd_sub S N) (h2 : cd_sub N (cd_cl n K L R S)) (hfix : ∀ i, i < n → cd_sub (cd_more n K L R F S N i) N)
    (hor : ∀ i, i < n → K i = 1 → N.testBit i = true → N.testBit (L i) = true ∨ N.testBit (R i) = true) (hno : ∀ i, i < n → K i = 4 → ¬ N.testBit i = true) : cd_W n K L R N := by
  have hN : N < 2 ^ n := cd_sub_lt h2 (cd_cl_lt S)
  have hwi : ∀ i, i < n → K i = 2 → (cd_wi F S (L i) N).testBit (R i) = true → N.testBit i = true := fun i hi e h => hfix i hi i ((cd_more_bit (hwf.2 i hi).1).mpr (Or.inr (Or.inr (Or.inr (Or.inr (Or.inl ⟨e, h, rfl⟩))))))
  have himp : ∀ i, i < n → K i = 2 → ¬ N.testBit i = true → ¬ N.testBit (R i) = true := by
    intro i hi e h z
    have kLR := (hwf.2 i hi).2.2.2 (by omega)
    apply h
    apply hwi i hi e
    unfold cd_wi
    by_cases c : S.testBit (L i) = true
    · rw [if_pos c]; exact z
    · rw [if_neg c, hF _ (cd_gt_add c) (cd_lt_add hS (by omega))]
      exact cd_cl_mono (cd_sub_or S _) _ (h2 _ z)
  refine (cd_W_eq hN).mpr ⟨fun i hi => ⟨fun e => ⟨fun h => ?_, fun h => ?_⟩, fun e => ⟨fun h => hor i hi e h, fun h => ?_⟩, fun e => ⟨fun h k => ?_, himp i hi e⟩, fun e => hno i hi e⟩, fun i hi e h => ?_⟩
  · have k4 := (hwf.2 i hi).1
    exact ⟨hfix i hi _ ((cd_more_bit k4).mpr (Or.inr (Or.inl ⟨e, h, Or.inl rfl⟩))), hfix i hi _ ((cd_more_bit k4).mpr (Or.inr (Or.inl ⟨e, h, Or.inr rfl⟩)))⟩
  · have k4 := (hwf.2 i hi).1
    by_cases z : N.testBit i = true
    · exact z
    · exact hfix i hi _ ((cd_more_bit k4).mpr (Or.inr (Or.inr (Or.inl ⟨e, z, h.1, h.2, rfl⟩))))
  · exact hfix i hi _ ((cd_more_bit (hwf.2 i hi).1).mpr (Or.inr (Or.inr (Or.inr (Or.inr (Or.inr (Or.inr ⟨e, h, rfl⟩)))))))
  · exact hfix i hi _ ((cd_more_bit (hwf.2 i hi).1).mpr (Or.inr (Or.inr (Or.inr (Or.inl ⟨e, h, k, rfl⟩)))))
  · have kLR := (hwf.2 i hi).2.2.2 (by omega)
    by_cases c : N.testBit (L i) = true
    · exact Or.inl ⟨c, himp i hi e h⟩
    · right
      have cS : ¬ S.testBit (L i) = true := fun z => c (h1 _ z)
      have hx : ¬ (cd_cl n K L R (S ||| 2 ^ L i)).testBit (R i) = true := by
        intro z
        apply h
        apply hwi i hi e
        unfold cd_wi
        rw [if_neg cS, hF _ (cd_gt_add cS) (cd_lt_add hS (by omega))]
        exact z
      have hy : ∃ w, w < 2 ^ n ∧ cd_W n K L R w ∧ cd_sub (S ||| 2 ^ L i) w ∧ ¬ w.testBit (R i) = true := by
        apply Classical.byContradiction
        intro hne
        apply hx
        refine cd_cl_bit.mpr ⟨by omega, fun w a b d => ?_⟩
        apply Classical.byContradiction
        intro z
        exact hne ⟨w, a, b, d, z⟩
      obtain ⟨w, a, b, d, z⟩ := hy
      have hSw : cd_sub S w := cd_sub_tr (cd_sub_or S _) d
      have hNw : cd_sub N w := cd_sub_tr h2 (cd_cl_in a b hSw)
      have hwL : w.testBit (L i) = true := d _ ((cd_or_bit _ _ _).mpr (Or.inr rfl))
      refine ⟨w, ?_, a, b, hNw, hwL, z⟩
      rcases Nat.lt_or_eq_of_le (cd_sub_le hNw) with y | y
      · exact y
      · rw [y] at c; exact absurd hwL c
/-- what the rules come to is what follows -/
theorem cd_fix (hwf : cd_wf n K L R) (hS : S < 2 ^ n) (hF : ∀ T, S < T → T < 2 ^ n → F T = cd_cl n K L R T) (h1 : cd_sub S N) (h2 : cd_sub N (cd_cl n K L R S)) (hfix : ∀ i, i < n → cd_sub (cd_more n K L R F S N i) N) : N = cd_cl n K L R S := by
  have hN : N < 2 ^ n := cd_sub_lt h2 (cd_cl_lt S)
  refine cd_sub_eq h2 fun c hc => ?_
  apply Classical.byContradiction
  intro hNc
  have hor : ∀ i, i < n → K i = 1 → N.testBit i = true → N.testBit (L i) = true ∨ N.testBit (R i) = true := by
    intro i hi e h
    apply Classical.byContradiction
    intro z
    have z1 : ¬ N.testBit (L i) = true := fun y => z (Or.inl y)
    have z2 : ¬ N.testBit (R i) = true := fun y => z (Or.inr y)
    have s1 : ¬ S.testBit (L i) = true := fun y => z1 (h1 _ y)
    have s2 : ¬ S.testBit (R i) = true := fun y => z2 (h1 _ y)
    have kLR := (hwf.2 i hi).2.2.2 (by omega)
    apply hNc
    refine hfix i hi c ((cd_more_bit (hwf.2 i hi).1).mpr (Or.inr (Or.inr (Or.inr (Or.inr (Or.inr (Or.inl ⟨e, h, ?_, ?_⟩)))))))
    · unfold cd_wi
      rw [if_neg s1, hF _ (cd_gt_add s1) (cd_lt_add hS (by omega))]
      exact cd_cl_mono (cd_sub_or S _) _ hc
    · unfold cd_wi
      rw [if_neg s2, hF _ (cd_gt_add s2) (cd_lt_add hS (by omega))]
      exact cd_cl_mono (cd_sub_or S _) _ hc
  have hno : ∀ i, i < n → K i = 4 → ¬ N.testBit i = true := by
    intro i hi e h
    exact hNc (hfix i hi c ((cd_more_bit (hwf.2 i hi).1).mpr (Or.inl ⟨e, h, (cd_cl_bit.mp hc).1⟩)))
  exact hNc (cd_cl_in hN (cd_fix_W hwf hS hF h1 h2 hfix hor hno) h1 c hc)
end CdFix
/-- saturated, as the rules see it -/
def cd_tw (n : Nat) (K L R F : Nat → Nat) (s : Nat) : Prop := F s = s ∧ ∀ i, i < n → (s.testBit i = true → ¬ K i = 4) ∧ (s.testBit i = true → K i = 1 → s.testBit (L i) = true ∨ s.testBit (R i) = true)
theorem cd_tw_W {n : Nat} {K L R F : Nat → Nat} {s : Nat} (hwf : cd_wf n K L R) (hs : s < 2 ^ n) (hF : ∀ T, T < 2 ^ n → F T = cd_cl n K L R T) : cd_tw n K L R F s ↔ cd_W n K L R s := by
  constructor
  · rintro ⟨e, h⟩
    rw [hF s hs] at e
    have h2 : cd_sub s (cd_cl n K L R s) := by rw [e]; exact cd_sub_rf s
    refine cd_fix_W (F := F) hwf hs (fun T _ hT => hF T hT) (cd_sub_rf s) h2 (fun i hi => ?_) (fun i hi k z => (h i hi).2 z k) (fun i hi k z => (h i hi).1 z k)
    have := cd_more_in (F := F) (N := s) hwf hs (fun T _ hT => hF T hT) h2 hi
    rw [e] at this
    exact this
  · intro h
    refine ⟨by rw [hF s hs]; exact cd_cl_W hs h, fun i hi => ⟨fun z k => (cd_W_kp hs h hi).2.2.2 k z, fun z k => ((cd_W_kp hs h hi).2.1 k).mp z⟩⟩
/-- saturated sets as a list, the greater first -/
def cd_pt (fd : Nat) (Wl : Nat → Nat) (s a b : Nat) : Prop := (s.testBit a = true ∧ ¬ s.testBit b = true) ∨ ∃ j, j < fd ∧ cd_sub s (Wl j) ∧ (Wl j).testBit a = true ∧ ¬ (Wl j).testBit b = true
def cd_iw (n : Nat) (K L R : Nat → Nat) (fd : Nat) (Wl : Nat → Nat) (s : Nat) : Prop := (∀ i, i < n → cd_kp K L R s i) ∧ ∀ i, i < n → K i = 2 → ¬ s.testBit i = true → cd_pt fd Wl s (L i) (R i)
def cd_WL (n : Nat) (K L R : Nat → Nat) (t fd : Nat) (Wl : Nat → Nat) : Prop := (∀ j, j < fd → t ≤ Wl j ∧ Wl j < 2 ^ n ∧ cd_W n K L R (Wl j)) ∧ (∀ s, t ≤ s → s < 2 ^ n → cd_W n K L R s → ∃ j, j < fd ∧ Wl j = s) ∧ (∀ i j, i < j → j < fd → Wl j < Wl i) ∧ fd + cd_ct (cd_W n K L R) t = cd_ct (cd_W n K L R) (2 ^ n)
section CdWL
variable {n : Nat} {K L R : Nat → Nat} {t s fd : Nat} {Wl : Nat → Nat}
theorem cd_WL_start : cd_WL n K L R (2 ^ n) 0 Wl := ⟨fun j h => by omega, fun s h1 h2 => by omega, fun i j h1 h2 => by omega, by omega⟩
theorem cd_WL_len (h : cd_WL n K L R t fd Wl) (ht : t ≤ 2 ^ n) : fd + t ≤ 2 ^ n := by
  have h4 := h.2.2.2
  have := cd_ct_df (cd_W n K L R) t (2 ^ n - t)
  rw [show t + (2 ^ n - t) = 2 ^ n by omega] at this
  omega
theorem cd_WL_iw (h : cd_WL n K L R (s + 1) fd Wl) (hs : s < 2 ^ n) : cd_iw n K L R fd Wl s ↔ cd_W n K L R s := by
  rw [cd_W_eq hs]
  constructor
  · rintro ⟨a, b⟩
    refine ⟨a, fun i hi e z => ?_⟩
    rcases b i hi e z with q | ⟨j, hj, q⟩
    · exact Or.inl q
    · obtain ⟨g1, g2, g3⟩ := h.1 j hj
      exact Or.inr ⟨Wl j, by omega, g2, g3, q⟩
  · rintro ⟨a, b⟩
    refine ⟨a, fun i hi e z => ?_⟩
    rcases b i hi e z with q | ⟨w, g1, g2, g3, q⟩
    · exact Or.inl q
    · obtain ⟨j, hj, e2⟩ := h.2.1 w (by omega) g2 g3
      subst e2
      exact Or.inr ⟨j, hj, q⟩
theorem cd_WL_yes (h : cd_WL n K L R (s + 1) fd Wl) (hs : s < 2 ^ n) (hW : cd_W n K L R s) : cd_WL n K L R s (fd + 1) (cd_up Wl fd s) := by
  refine ⟨fun j hj => ?_, fun x h1 h2 h3 => ?_, fun i j h1 h2 => ?_, ?_⟩
  · by_cases e : j = fd
    · subst e; rw [cd_up_s]; exact ⟨Nat.le_refl _, hs, hW⟩
    · rw [cd_up_n _ e]
      obtain ⟨a, b⟩ := h.1 j (by omega)
      exact ⟨by omega, b⟩
  · by_cases e : x = s
    · subst e; exact ⟨fd, by omega, cd_up_s _ _ _⟩
    · obtain ⟨j, hj, e2⟩ := h.2.1 x (by omega) h2 h3
      exact ⟨j, by omega, by rw [cd_up_n _ (by omega)]; exact e2⟩
  · by_cases e : j = fd
    · subst e
      rw [cd_up_s, cd_up_n _ (by omega)]
      have := (h.1 i (by omega)).1
      omega
    · rw [cd_up_n _ e, cd_up_n _ (by omega)]
      exact h.2.2.1 i j h1 (by omega)
  · have := h.2.2.2
    rw [cd_ct_1 hW] at this
    omega
theorem cd_WL_no (h : cd_WL n K L R (s + 1) fd Wl) (hW : ¬ cd_W n K L R s) : cd_WL n K L R s fd Wl := by
  refine ⟨fun j hj => ?_, fun x h1 h2 h3 => ?_, h.2.2.1, ?_⟩
  · obtain ⟨a, b⟩ := h.1 j hj
    exact ⟨by omega, b⟩
  · by_cases e : x = s
    · subst e; exact absurd h3 hW
    · exact h.2.1 x (by omega) h2 h3
  · have := h.2.2.2
    rw [cd_ct_0 hW] at this
    exact this
/-- what is asked of all in the list is asked of all saturated sets -/
theorem cd_WL_all (h : cd_WL n K L R 0 fd Wl) {P : Nat → Prop} : (∀ j, j < fd → P (Wl j)) ↔ ∀ w, w < 2 ^ n → cd_W n K L R w → P w := by
  constructor
  · intro a w h1 h2
    obtain ⟨j, hj, e⟩ := h.2.1 w (Nat.zero_le _) h1 h2
    subst e
    exact a j hj
  · intro a j hj
    obtain ⟨-, h2, h3⟩ := h.1 j hj
    exact a _ h2 h3
theorem cd_WL_some (h : cd_WL n K L R 0 fd Wl) {P : Nat → Prop} : (∃ j, j < fd ∧ P (Wl j)) ↔ ∃ w, w < 2 ^ n ∧ cd_W n K L R w ∧ P w := by
  constructor
  · rintro ⟨j, hj, p⟩
    obtain ⟨-, h2, h3⟩ := h.1 j hj
    exact ⟨_, h2, h3, p⟩
  · rintro ⟨w, h1, h2, p⟩
    obtain ⟨j, hj, e⟩ := h.2.1 w (Nat.zero_le _) h1 h2
    subst e
    exact ⟨j, hj, p⟩
end CdWL
/-- the list's part of what follows: the first k of the list -/
noncomputable def cd_co (n k : Nat) (Wl : Nat → Nat) (S : Nat) : Nat := cd_mk (fun i => ∀ j, j < k → cd_sub S (Wl j) → (Wl j).testBit i = true) n
theorem cd_co_lt (n k : Nat) (Wl : Nat → Nat) (S : Nat) : cd_co n k Wl S < 2 ^ n := cd_mk_lt _ _
theorem cd_co_0 (n : Nat) (Wl : Nat → Nat) (S : Nat) : cd_co n 0 Wl S = 2 ^ n - 1 := by
  apply cd_sub_eq
  · intro i hi
    rw [Nat.testBit_two_pow_sub_one]
    exact decide_eq_true ((cd_mk_bit _ _ _).mp hi).1
  · intro i hi
    rw [Nat.testBit_two_pow_sub_one] at hi
    exact (cd_mk_bit _ _ _).mpr ⟨of_decide_eq_true hi, fun j hj => by omega⟩
theorem cd_co_1 {n k : Nat} {Wl : Nat → Nat} {S : Nat} (h : cd_sub S (Wl k)) : cd_co n k Wl S &&& Wl k = cd_co n (k + 1) Wl S := by
  apply cd_sub_eq
  · intro i hi
    obtain ⟨a, b⟩ := (cd_and_bits _ _ _).mp hi
    obtain ⟨c, d⟩ := (cd_mk_bit _ _ _).mp a
    refine (cd_mk_bit _ _ _).mpr ⟨c, fun j hj z => ?_⟩
    rcases Nat.lt_or_eq_of_le (Nat.le_of_lt_succ hj) with q | q
    · exact d j q z
    · rw [q]; exact b
  · intro i hi
    obtain ⟨c, d⟩ := (cd_mk_bit _ _ _).mp hi
    exact (cd_and_bits _ _ _).mpr ⟨(cd_mk_bit _ _ _).mpr ⟨c, fun j hj => d j (by omega)⟩, d k (by omega) h⟩
theorem cd_co_2 {n k : Nat} {Wl : Nat → Nat} {S : Nat} (h : ¬ cd_sub S (Wl k)) : cd_co n k Wl S = cd_co n (k + 1) Wl S := by
  apply cd_sub_eq
  · intro i hi
    obtain ⟨c, d⟩ := (cd_mk_bit _ _ _).mp hi
    refine (cd_mk_bit _ _ _).mpr ⟨c, fun j hj z => ?_⟩
    rcases Nat.lt_or_eq_of_le (Nat.le_of_lt_succ hj) with q | q
    · exact d j q z
    · subst q; exact absurd z h
  · intro i hi
    obtain ⟨c, d⟩ := (cd_mk_bit _ _ _).mp hi
    exact (cd_mk_bit _ _ _).mpr ⟨c, fun j hj => d j (by omega)⟩
theorem cd_co_cl {n : Nat} {K L R : Nat → Nat} {fd : Nat} {Wl : Nat → Nat} (h : cd_WL n K L R 0 fd Wl) (S : Nat) : cd_co n fd Wl S = cd_cl n K L R S := by
  apply cd_sub_eq
  · intro i hi
    obtain ⟨c, d⟩ := (cd_mk_bit _ _ _).mp hi
    exact cd_cl_bit.mpr ⟨c, (cd_WL_all h (P := fun w => cd_sub S w → w.testBit i = true)).mp d⟩
  · intro i hi
    obtain ⟨c, d⟩ := cd_cl_bit.mp hi
    exact (cd_mk_bit _ _ _).mpr ⟨c, (cd_WL_all h (P := fun w => cd_sub S w → w.testBit i = true)).mpr d⟩
theorem cd_sub_pw {k w : Nat} : cd_sub (2 ^ k) w ↔ w.testBit k = true := ⟨fun h => h k ((cd_pw_bit k k).mpr rfl), fun h i hi => by rw [(cd_pw_bit k i).mp hi]; exact h⟩
/-- alike: in the same saturated sets; the rules: each follows from the other -/
theorem cd_alike {n : Nat} {K L R : Nat → Nat} {i j : Nat} (hi : i < n) (hj : j < n) : (∀ w, w < 2 ^ n → cd_W n K L R w → (w.testBit i = true ↔ w.testBit j = true)) ↔ (cd_cl n K L R (2 ^ i)).testBit j = true ∧ (cd_cl n K L R (2 ^ j)).testBit i = true := by
  constructor
  · intro h
    exact ⟨cd_cl_bit.mpr ⟨hj, fun w a b c => (h w a b).mp (cd_sub_pw.mp c)⟩, cd_cl_bit.mpr ⟨hi, fun w a b c => (h w a b).mpr (cd_sub_pw.mp c)⟩⟩
  · rintro ⟨h1, h2⟩ w a b
    exact ⟨fun z => (cd_cl_bit.mp h1).2 w a b (cd_sub_pw.mpr z), fun z => (cd_cl_bit.mp h2).2 w a b (cd_sub_pw.mpr z)⟩
/-- truth: the formulas that are true for a choice, the first k of them -/
def cd_tg (K L R : Nat → Nat) (ch t k : Nat) : Prop := (K k = 3 ∧ ch.testBit (L k) = true) ∨ (K k = 0 ∧ t.testBit (L k) = true ∧ t.testBit (R k) = true) ∨ (K k = 1 ∧ (t.testBit (L k) = true ∨ t.testBit (R k) = true)) ∨ (K k = 2 ∧ (t.testBit (L k) = true → t.testBit (R k) = true))
noncomputable def cd_tf (K L R : Nat → Nat) (ch : Nat) : Nat → Nat
  | 0 => 0
  | k + 1 => @ite Nat (cd_tg K L R ch (cd_tf K L R ch k) k) (Classical.propDecidable _) (cd_tf K L R ch k ||| 2 ^ k) (cd_tf K L R ch k)
theorem cd_tf_1 {K L R : Nat → Nat} {ch k : Nat} (h : cd_tg K L R ch (cd_tf K L R ch k) k) : cd_tf K L R ch (k + 1) = cd_tf K L R ch k ||| 2 ^ k := by rw [cd_tf, if_pos h]
theorem cd_tf_0 {K L R : Nat → Nat} {ch k : Nat} (h : ¬ cd_tg K L R ch (cd_tf K L R ch k) k) : cd_tf K L R ch (k + 1) = cd_tf K L R ch k := by rw [cd_tf, if_neg h]
theorem cd_tf_lt (K L R : Nat → Nat) (ch : Nat) : ∀ k, cd_tf K L R ch k < 2 ^ k
  | 0 => (show 0 < 2 ^ 0 by decide)
  | k + 1 => by
    have h := cd_tf_lt K L R ch k
    have h2 : cd_tf K L R ch k < 2 ^ (k + 1) := Nat.lt_of_lt_of_le h (Nat.pow_le_pow_right (by decide) (by omega))
    by_cases z : cd_tg K L R ch (cd_tf K L R ch k) k
    · rw [cd_tf_1 z]; exact cd_lt_add h2 (by omega)
    · rw [cd_tf_0 z]; exact h2
theorem cd_tf_old {K L R : Nat → Nat} {ch k j : Nat} (hj : j < k) : (cd_tf K L R ch (k + 1)).testBit j = true ↔ (cd_tf K L R ch k).testBit j = true := by
  by_cases z : cd_tg K L R ch (cd_tf K L R ch k) k
  · rw [cd_tf_1 z, cd_or_bit]
    exact ⟨fun h => h.elim id (fun e => by omega), Or.inl⟩
  · rw [cd_tf_0 z]
theorem cd_tf_new {K L R : Nat → Nat} {ch k : Nat} : (cd_tf K L R ch (k + 1)).testBit k = true ↔ cd_tg K L R ch (cd_tf K L R ch k) k := by
  by_cases z : cd_tg K L R ch (cd_tf K L R ch k) k
  · rw [cd_tf_1 z, cd_or_bit]
    exact ⟨fun _ => z, fun _ => Or.inr rfl⟩
  · rw [cd_tf_0 z]
    exact ⟨fun h => absurd (cd_bit_lt (cd_tf_lt K L R ch k) h) (by omega), fun h => absurd h z⟩
/-- c follows by truth tables -/
def cd_cy (n : Nat) (K L R : Nat → Nat) (S c : Nat) : Prop := ∀ ch, ch < 16 → cd_sub S (cd_tf K L R ch n) → (cd_tf K L R ch n).testBit c = true
/-- the fewest formulas of S from which c follows; -4 if it doesn't follow from S -/
def cd_en (n : Nat) (K L R : Nat → Nat) (S c : Nat) (r : Int32) : Prop := (¬ (cd_cl n K L R S).testBit c = true ∧ r = -4) ∨ ∃ q, cd_sub q S ∧ (cd_cl n K L R q).testBit c = true ∧ r = nI (cd_pc q n) ∧ ∀ q', cd_sub q' S → (cd_cl n K L R q').testBit c = true → cd_pc q n ≤ cd_pc q' n
theorem cd_en_one {n : Nat} {K L R : Nat → Nat} {S c : Nat} {r t : Int32} (h1 : cd_en n K L R S c r) (h2 : cd_en n K L R S c t) : r = t := by
  rcases h1 with ⟨a, e⟩ | ⟨q, q1, q2, e, q3⟩
  · rcases h2 with ⟨-, e2⟩ | ⟨p, p1, p2, -, -⟩
    · rw [e, e2]
    · exact absurd (cd_cl_mono p1 _ p2) a
  · rcases h2 with ⟨a, -⟩ | ⟨p, p1, p2, e2, p3⟩
    · exact absurd (cd_cl_mono q1 _ q2) a
    · rw [e, e2, Nat.le_antisymm (q3 p p1 p2) (p3 q q1 q2)]
/-- the least saturated set above S without c; -4 if there is none -/
def cd_ag (n : Nat) (K L R : Nat → Nat) (S c : Nat) (r : Int32) : Prop := ((∀ w, w < 2 ^ n → cd_W n K L R w → cd_sub S w → w.testBit c = true) ∧ r = -4) ∨ ∃ w, r = nI w ∧ w < 2 ^ n ∧ cd_W n K L R w ∧ cd_sub S w ∧ ¬ w.testBit c = true ∧ ∀ v, v < w → cd_W n K L R v → cd_sub S v → v.testBit c = true
theorem cd_ag_one {n : Nat} {K L R : Nat → Nat} {S c : Nat} {r t : Int32} (h1 : cd_ag n K L R S c r) (h2 : cd_ag n K L R S c t) : r = t := by
  rcases h1 with ⟨a, e⟩ | ⟨w, e, w1, w2, w3, w4, w5⟩
  · rcases h2 with ⟨-, e2⟩ | ⟨v, e2, v1, v2, v3, v4, v5⟩
    · rw [e, e2]
    · exact absurd (a v v1 v2 v3) v4
  · rcases h2 with ⟨a, -⟩ | ⟨v, e2, v1, v2, v3, v4, v5⟩
    · exact absurd (a w w1 w2 w3) w4
    · rw [e, e2]
      rcases Nat.lt_trichotomy w v with q | q | q
      · exact absurd (v5 w q w2 w3) w4
      · rw [q]
      · exact absurd (w5 v q v2 v3) v4
/-- what has to be met -/
def cd_GA (k : Nat) (Wl : Nat → Nat) (S c hu : Nat) (Hl : Nat → Nat) : Prop := (∀ h, h < hu → ∃ w, w < k ∧ ¬ (Wl w).testBit c = true ∧ Hl h = cd_df S (Wl w)) ∧ (∀ w, w < k → ¬ (Wl w).testBit c = true → ∃ h, h < hu ∧ Hl h = cd_df S (Wl w)) ∧ hu ≤ k
theorem cd_GA_0 {Wl : Nat → Nat} {S c : Nat} {Hl : Nat → Nat} : cd_GA 0 Wl S c 0 Hl := ⟨fun h z => by omega, fun w z => by omega, Nat.le_refl _⟩
theorem cd_GA_1 {k : Nat} {Wl : Nat → Nat} {S c hu : Nat} {Hl : Nat → Nat} (h : cd_GA k Wl S c hu Hl) (hc : ¬ (Wl k).testBit c = true) : cd_GA (k + 1) Wl S c (hu + 1) (cd_up Hl hu (cd_df S (Wl k))) := by
  refine ⟨fun x hx => ?_, fun w hw z => ?_, by have := h.2.2; omega⟩
  · by_cases e : x = hu
    · subst e; exact ⟨k, by omega, hc, cd_up_s _ _ _⟩
    · obtain ⟨w, w1, w2, w3⟩ := h.1 x (by omega)
      exact ⟨w, by omega, w2, by rw [cd_up_n _ e]; exact w3⟩
  · by_cases e : w = k
    · subst e; exact ⟨hu, by omega, cd_up_s _ _ _⟩
    · obtain ⟨x, x1, x2⟩ := h.2.1 w (by omega) z
      exact ⟨x, by omega, by rw [cd_up_n _ (by omega)]; exact x2⟩
theorem cd_GA_2 {k : Nat} {Wl : Nat → Nat} {S c hu : Nat} {Hl : Nat → Nat} (h : cd_GA k Wl S c hu Hl) (hc : (Wl k).testBit c = true) : cd_GA (k + 1) Wl S c hu Hl := by
  refine ⟨fun x hx => ?_, fun w hw z => ?_, by have := h.2.2; omega⟩
  · obtain ⟨w, w1, w2, w3⟩ := h.1 x hx
    exact ⟨w, by omega, w2, w3⟩
  · by_cases e : w = k
    · subst e; exact absurd hc z
    · exact h.2.1 w (by omega) z
theorem cd_GA_lt {k : Nat} {Wl : Nat → Nat} {S c hu : Nat} {Hl : Nat → Nat} {n : Nat} (h : cd_GA k Wl S c hu Hl) (hS : S < 2 ^ n) : ∀ x, x < hu → Hl x < 2 ^ n := by
  intro x hx
  obtain ⟨w, -, -, e⟩ := h.1 x hx
  rw [e]; exact cd_df_lt hS
section CdGA
variable {n : Nat} {K L R : Nat → Nat} {fd : Nat} {Wl : Nat → Nat} {S c hu : Nat} {Hl : Nat → Nat}
/-- a part of S meets all just when c follows from it -/
theorem cd_GA_cl (hW : cd_WL n K L R 0 fd Wl) (h : cd_GA fd Wl S c hu Hl) (hc : c < n) {q : Nat} (hq : cd_sub q S) : (∀ x, x < hu → ¬ Hl x &&& q = 0) ↔ (cd_cl n K L R q).testBit c = true := by
  have key : ∀ w, cd_df S w &&& q = 0 ↔ cd_sub q w := by
    intro w
    rw [cd_and_0]
    constructor
    · intro a i hi
      cases hb : w.testBit i
      · exfalso
        refine a i ?_ hi
        rw [cd_df_bit, hq i hi, hb]; rfl
      · rfl
    · intro a i h1 h2
      rw [cd_df_bit, a i h2] at h1
      simp at h1
  constructor
  · intro a
    refine cd_cl_bit.mpr ⟨hc, (cd_WL_all hW (P := fun w => cd_sub q w → w.testBit c = true)).mp (fun j hj z => ?_)⟩
    apply Classical.byContradiction
    intro y
    obtain ⟨x, x1, x2⟩ := h.2.1 j hj y
    apply a x x1
    rw [x2, key]
    exact z
  · intro a x hx z
    obtain ⟨w, w1, w2, w3⟩ := h.1 x hx
    rw [w3, key] at z
    exact w2 ((cd_WL_all hW (P := fun w => cd_sub q w → w.testBit c = true)).mpr (cd_cl_bit.mp a).2 w w1 z)
theorem cd_GA_can (hW : cd_WL n K L R 0 fd Wl) (hc : c < n) : (∀ w, w < fd → ¬ (Wl w).testBit c = true → ¬ cd_df S (Wl w) = 0) ↔ (cd_cl n K L R S).testBit c = true := by
  rw [cd_cl_bit]
  constructor
  · intro a
    refine ⟨hc, (cd_WL_all hW (P := fun w => cd_sub S w → w.testBit c = true)).mp (fun j hj z => ?_)⟩
    apply Classical.byContradiction
    intro y
    exact a j hj y (cd_df0.mpr z)
  · intro a w hw y z
    exact y ((cd_WL_all hW (P := fun w => cd_sub S w → w.testBit c = true)).mpr a.2 w hw (cd_df0.mp z))
end CdGA
end
section
/-! ROWS: pictures of the two objects, and a row for each field, array, call, loop, entry and end -/
abbrev cd_cls : List vw_C := [(RX0, TX0, 9), (RX1, TX1, 7)]
/-- the room of a method k calls deep -/
def cd_rm (k : Nat) : Room := { frames := k, cells := 0, slots := 0, locals := 32 * k }
/-- the desk's cells -/
noncomputable def cd_wD (a : Nat → Nat) (d : Nat → ClassId) (n : Nat) (K L R : Nat → Nat) (kn : Prop) (fd : Nat) (Wl : Nat → Nat) (hu : Nat) (Hl : Nat → Nat) : va_W := [(a 0, .inr (0, [.int (nI n), .ref (a 1), .ref (a 2), .ref (a 3), .int (cd_b kn), .int (nI fd), .ref (a 4), .int (nI hu), .ref (a 5)])), (a 1, .inl (d 1, 11, .inl (fun j => nI (K j)))), (a 2, .inl (d 2, 11, .inl (fun j => nI (L j)))), (a 3, .inl (d 3, 11, .inl (fun j => nI (R j)))), (a 4, .inl (d 4, 2048, .inl (fun j => nI (Wl j)))), (a 5, .inl (d 5, 2048, .inl (fun j => nI (Hl j))))]
def cd_tD (d : Nat → ClassId) : List (ClassId × FieldType) := [(d 1, .byte), (d 2, .byte), (d 3, .byte), (d 4, .short), (d 5, .short)]
/-- the model's cells -/
noncomputable def cd_wM (a : Nat → Nat) (d : Nat → ClassId) (n : Nat) (K L R : Nat → Nat) (kn : Prop) (F : Nat → Nat) (T : Nat → Prop) : va_W := [(a 0, .inr (1, [.int (nI n), .ref (a 1), .ref (a 2), .ref (a 3), .int (cd_b kn), .ref (a 4), .ref (a 5)])), (a 1, .inl (d 1, 11, .inl (fun j => nI (K j)))), (a 2, .inl (d 2, 11, .inl (fun j => nI (L j)))), (a 3, .inl (d 3, 11, .inl (fun j => nI (R j)))), (a 4, .inl (d 4, 2048, .inl (fun j => nI (F j)))), (a 5, .inl (d 5, 11, .inl (fun j => cd_b (T j))))]
def cd_tM (d : Nat → ClassId) : List (ClassId × FieldType) := [(d 1, .int), (d 2, .int), (d 3, .int), (d 4, .int), (d 5, .boolean)]
section CdRows
variable {p : Program} {l : Launch} {e : Env} {R0 : Room} {s : State} {m : MethodId} {args : Array Value} {below : List Frame} {meth : Method} {c : Code} {H : Heap} {locs : List Loc} {cells slots : Nat} {Q : State → Prop}
variable {cc : ByteArray} {pc : Nat} {ls : Array Slot} {rest : List Value} {D : va_G} {tys : List (ClassId × FieldType)} {A : Nat → Prop} {H0 : Heap}
variable {a : Nat → Nat} {d : Nat → ClassId} {n : Nat} {K L R : Nat → Nat} {kn : Prop} {fd : Nat} {Wl : Nat → Nat} {hu : Nat} {Hl : Nat → Nat} {F : Nat → Nat} {T : Nat → Prop}

theorem cd_v {x y : Int32} (h : x = y) (k : W p l e R0 s m args below meth c H locs cells slots Q (F0 m pc ls (.int y :: rest))) : W p l e R0 s m args below meth c H locs cells slots Q (F0 m pc ls (.int x :: rest)) := h ▸ k
theorem cd_inc (x : Nat) : nI x + Int32.ofInt 1 = nI (x + 1) := nI_1 x
theorem cd_inc4 (x : Nat) : nI x + Int32.ofInt 4 = nI (x + 4) := nI_add x 4
theorem cd_dec (x : Nat) : nI (x + 1) + Int32.ofInt (-1) = nI x := pk_m1 x
theorem cd_icmp_ge {x y : Nat} (h1 : x < 2 ^ 31) (h2 : y < 2 ^ 31) (hx : p.tables.exec = Jvm.exec) (hb : c.code = cc) {off : Int} {tgt : Nat} (hdg : decode cc pc = .ok (.if_icmp .ge off, 3)) (ht : (pc : Int) + off = (tgt : Int)) (kt : y ≤ x → W p l e R0 s m args below meth c H locs cells slots Q (F0 m tgt ls rest)) (kf : x < y → W p l e R0 s m args below meth c H locs cells slots Q (F0 m (pc + 3) ls rest)) : W p l e R0 s m args below meth c H locs cells slots Q (F0 m pc ls (.int (nI y) :: .int (nI x) :: rest)) := lv_icmp_ge hx hb hdg ht (fun h => kt ((nI_leI h2 h1).mp h)) (fun h => kf (Nat.lt_of_not_le (fun z => h ((nI_leI h2 h1).mpr z))))
theorem cd_icmp_lt {x y : Nat} (h1 : x < 2 ^ 31) (h2 : y < 2 ^ 31) (hx : p.tables.exec = Jvm.exec) (hb : c.code = cc) {off : Int} {tgt : Nat} (hdg : decode cc pc = .ok (.if_icmp .lt off, 3)) (ht : (pc : Int) + off = (tgt : Int)) (kt : x < y → W p l e R0 s m args below meth c H locs cells slots Q (F0 m tgt ls rest)) (kf : y ≤ x → W p l e R0 s m args below meth c H locs cells slots Q (F0 m (pc + 3) ls rest)) : W p l e R0 s m args below meth c H locs cells slots Q (F0 m pc ls (.int (nI y) :: .int (nI x) :: rest)) := lv_icmp_lt hx hb hdg ht (fun h => kt ((nI_ltI h1 h2).mp h)) (fun h => kf (Nat.le_of_not_lt (fun z => h ((nI_ltI h1 h2).mpr z))))
theorem cd_icmp_gt {x y : Nat} (h1 : x < 2 ^ 31) (h2 : y < 2 ^ 31) (hx : p.tables.exec = Jvm.exec) (hb : c.code = cc) {off : Int} {tgt : Nat} (hdg : decode cc pc = .ok (.if_icmp .gt off, 3)) (ht : (pc : Int) + off = (tgt : Int)) (kt : y < x → W p l e R0 s m args below meth c H locs cells slots Q (F0 m tgt ls rest)) (kf : x ≤ y → W p l e R0 s m args below meth c H locs cells slots Q (F0 m (pc + 3) ls rest)) : W p l e R0 s m args below meth c H locs cells slots Q (F0 m pc ls (.int (nI y) :: .int (nI x) :: rest)) := lv_icmp_gt hx hb hdg ht (fun h => kt ((nI_ltI h2 h1).mp h)) (fun h => kf (Nat.le_of_not_lt (fun z => h ((nI_ltI h2 h1).mpr z))))
theorem cd_icmp_eq {x y : Nat} (h1 : x < 2 ^ 31) (h2 : y < 2 ^ 31) (hx : p.tables.exec = Jvm.exec) (hb : c.code = cc) {off : Int} {tgt : Nat} (hdg : decode cc pc = .ok (.if_icmp .eq off, 3)) (ht : (pc : Int) + off = (tgt : Int)) (kt : x = y → W p l e R0 s m args below meth c H locs cells slots Q (F0 m tgt ls rest)) (kf : ¬ x = y → W p l e R0 s m args below meth c H locs cells slots Q (F0 m (pc + 3) ls rest)) : W p l e R0 s m args below meth c H locs cells slots Q (F0 m pc ls (.int (nI y) :: .int (nI x) :: rest)) := lv_icmp_eq hx hb hdg ht (fun h => kt ((nI_eq h1 h2).mp h)) (fun h => kf (fun z => h ((nI_eq h1 h2).mpr z)))
theorem cd_icmp_ne {x y : Nat} (h1 : x < 2 ^ 31) (h2 : y < 2 ^ 31) (hx : p.tables.exec = Jvm.exec) (hb : c.code = cc) {off : Int} {tgt : Nat} (hdg : decode cc pc = .ok (.if_icmp .ne off, 3)) (ht : (pc : Int) + off = (tgt : Int)) (kt : ¬ x = y → W p l e R0 s m args below meth c H locs cells slots Q (F0 m tgt ls rest)) (kf : x = y → W p l e R0 s m args below meth c H locs cells slots Q (F0 m (pc + 3) ls rest)) : W p l e R0 s m args below meth c H locs cells slots Q (F0 m pc ls (.int (nI y) :: .int (nI x) :: rest)) := lv_icmp_ne hx hb hdg ht (fun h => kt (fun z => h ((nI_eq h1 h2).mpr z))) (fun h => kf ((nI_eq h1 h2).mp h))
theorem cd_if_eq {x : Nat} (h1 : x < 2 ^ 31) (hx : p.tables.exec = Jvm.exec) (hb : c.code = cc) {off : Int} {tgt : Nat} (hdg : decode cc pc = .ok (.ifCond .eq off, 3)) (ht : (pc : Int) + off = (tgt : Int)) (kt : x = 0 → W p l e R0 s m args below meth c H locs cells slots Q (F0 m tgt ls rest)) (kf : ¬ x = 0 → W p l e R0 s m args below meth c H locs cells slots Q (F0 m (pc + 3) ls rest)) : W p l e R0 s m args below meth c H locs cells slots Q (F0 m pc ls (.int (nI x) :: rest)) := lv_if_eq hx hb hdg ht (fun h => kt ((nI_eq h1 (by decide)).mp h)) (fun h => kf (fun z => h (by rw [z]; rfl)))
theorem cd_if_ne {x : Nat} (h1 : x < 2 ^ 31) (hx : p.tables.exec = Jvm.exec) (hb : c.code = cc) {off : Int} {tgt : Nat} (hdg : decode cc pc = .ok (.ifCond .ne off, 3)) (ht : (pc : Int) + off = (tgt : Int)) (kt : ¬ x = 0 → W p l e R0 s m args below meth c H locs cells slots Q (F0 m tgt ls rest)) (kf : x = 0 → W p l e R0 s m args below meth c H locs cells slots Q (F0 m (pc + 3) ls rest)) : W p l e R0 s m args below meth c H locs cells slots Q (F0 m pc ls (.int (nI x) :: rest)) := lv_if_ne hx hb hdg ht (fun h => kt (fun z => h (by rw [z]; rfl))) (fun h => kf ((nI_eq h1 (by decide)).mp h))
theorem cd_if_le {x : Nat} (h1 : x < 2 ^ 31) (hx : p.tables.exec = Jvm.exec) (hb : c.code = cc) {off : Int} {tgt : Nat} (hdg : decode cc pc = .ok (.ifCond .le off, 3)) (ht : (pc : Int) + off = (tgt : Int)) (kt : x = 0 → W p l e R0 s m args below meth c H locs cells slots Q (F0 m tgt ls rest)) (kf : 0 < x → W p l e R0 s m args below meth c H locs cells slots Q (F0 m (pc + 3) ls rest)) : W p l e R0 s m args below meth c H locs cells slots Q (F0 m pc ls (.int (nI x) :: rest)) := lv_if_le hx hb hdg ht (fun h => kt (Nat.le_zero.mp ((nI_leI h1 (b := 0) (by decide)).mp h))) (fun h => kf (Nat.pos_of_ne_zero (fun z => h (by rw [z]; decide))))
theorem cd_if_lt {x : Nat} (h1 : x < 2 ^ 31) (hx : p.tables.exec = Jvm.exec) (hb : c.code = cc) {off : Int} {tgt : Nat} (hdg : decode cc pc = .ok (.ifCond .lt off, 3)) (ht : (pc : Int) + off = (tgt : Int)) (kt : False → W p l e R0 s m args below meth c H locs cells slots Q (F0 m tgt ls rest)) (kf : True → W p l e R0 s m args below meth c H locs cells slots Q (F0 m (pc + 3) ls rest)) : W p l e R0 s m args below meth c H locs cells slots Q (F0 m pc ls (.int (nI x) :: rest)) := lv_if_lt hx hb hdg ht (fun h => kt (nI_pos h1 h)) (fun _ => kf trivial)
theorem cd_ifb_eq {P : Prop} (hx : p.tables.exec = Jvm.exec) (hb : c.code = cc) {off : Int} {tgt : Nat} (hdg : decode cc pc = .ok (.ifCond .eq off, 3)) (ht : (pc : Int) + off = (tgt : Int)) (kt : ¬ P → W p l e R0 s m args below meth c H locs cells slots Q (F0 m tgt ls rest)) (kf : P → W p l e R0 s m args below meth c H locs cells slots Q (F0 m (pc + 3) ls rest)) : W p l e R0 s m args below meth c H locs cells slots Q (F0 m pc ls (.int (cd_b P) :: rest)) := lv_if_eq hx hb hdg ht (fun h => kt (cd_bz.mp h)) (fun h => kf (Classical.byContradiction (fun z => h (cd_bz.mpr z))))
theorem cd_ifb_ne {P : Prop} (hx : p.tables.exec = Jvm.exec) (hb : c.code = cc) {off : Int} {tgt : Nat} (hdg : decode cc pc = .ok (.ifCond .ne off, 3)) (ht : (pc : Int) + off = (tgt : Int)) (kt : P → W p l e R0 s m args below meth c H locs cells slots Q (F0 m tgt ls rest)) (kf : ¬ P → W p l e R0 s m args below meth c H locs cells slots Q (F0 m (pc + 3) ls rest)) : W p l e R0 s m args below meth c H locs cells slots Q (F0 m pc ls (.int (cd_b P) :: rest)) := lv_if_ne hx hb hdg ht (fun h => kt (Classical.byContradiction (fun z => h (cd_bz.mpr z)))) (fun h => kf (cd_bz.mp h))
theorem cd_icmpb_ne1 {P : Prop} (hx : p.tables.exec = Jvm.exec) (hb : c.code = cc) {off : Int} {tgt : Nat} (hdg : decode cc pc = .ok (.if_icmp .ne off, 3)) (ht : (pc : Int) + off = (tgt : Int)) (kt : ¬ P → W p l e R0 s m args below meth c H locs cells slots Q (F0 m tgt ls rest)) (kf : P → W p l e R0 s m args below meth c H locs cells slots Q (F0 m (pc + 3) ls rest)) : W p l e R0 s m args below meth c H locs cells slots Q (F0 m pc ls (.int (nI 1) :: .int (cd_b P) :: rest)) := lv_icmp_ne hx hb hdg ht (fun h => kt (fun z => h (cd_bq1.mpr z))) (fun h => kf (cd_bq1.mp h))
theorem cd_icmpb_ne0 {P : Prop} (hx : p.tables.exec = Jvm.exec) (hb : c.code = cc) {off : Int} {tgt : Nat} (hdg : decode cc pc = .ok (.if_icmp .ne off, 3)) (ht : (pc : Int) + off = (tgt : Int)) (kt : P → W p l e R0 s m args below meth c H locs cells slots Q (F0 m tgt ls rest)) (kf : ¬ P → W p l e R0 s m args below meth c H locs cells slots Q (F0 m (pc + 3) ls rest)) : W p l e R0 s m args below meth c H locs cells slots Q (F0 m pc ls (.int (nI 0) :: .int (cd_b P) :: rest)) := lv_icmp_ne hx hb hdg ht (fun h => kt (Classical.byContradiction (fun z => h (cd_bq0.mpr z)))) (fun h => kf (cd_bq0.mp h))
theorem cd_icmpb_ne {P P2 : Prop} (hx : p.tables.exec = Jvm.exec) (hb : c.code = cc) {off : Int} {tgt : Nat} (hdg : decode cc pc = .ok (.if_icmp .ne off, 3)) (ht : (pc : Int) + off = (tgt : Int)) (kt : ¬ (P ↔ P2) → W p l e R0 s m args below meth c H locs cells slots Q (F0 m tgt ls rest)) (kf : (P ↔ P2) → W p l e R0 s m args below meth c H locs cells slots Q (F0 m (pc + 3) ls rest)) : W p l e R0 s m args below meth c H locs cells slots Q (F0 m pc ls (.int (cd_b P2) :: .int (cd_b P) :: rest)) := lv_icmp_ne hx hb hdg ht (fun h => kt (fun z => h (cd_bq.mpr z))) (fun h => kf (cd_bq.mp h))
theorem gD_count (hx : p.tables.exec = Jvm.exec) (hb : c.code = cc) (hts : ∀ w ∈ lw_all, w.before args s = true) (hown : s.vm.findClass RX0 = some m.cls) (hK : va_K D cd_cls tys s) (hP : va_P D cd_cls (cd_wD a d n K L R kn fd Wl hu Hl) H) (hdg : decode cc pc = .ok (.getfield 26, 3)) (kk : W p l e R0 s m args below meth c H locs cells slots Q (F0 m (pc + 3) ls (.int (nI n) :: rest))) : W p l e R0 s m args below meth c H locs cells slots Q (F0 m pc ls (.ref (a 0) :: rest)) := va_get (D := D) (ci := 0) (v := .int (nI n)) (C := RX0) (T := TX0) (N := 9) hx hb hts in_X0 hown hK hP 0 rfl rfl 0 (by decide) (hts _ q35) (fun _ h9 => h9) rfl hdg kk
theorem gD_kind (hx : p.tables.exec = Jvm.exec) (hb : c.code = cc) (hts : ∀ w ∈ lw_all, w.before args s = true) (hown : s.vm.findClass RX0 = some m.cls) (hK : va_K D cd_cls tys s) (hP : va_P D cd_cls (cd_wD a d n K L R kn fd Wl hu Hl) H) (hdg : decode cc pc = .ok (.getfield 7, 3)) (kk : W p l e R0 s m args below meth c H locs cells slots Q (F0 m (pc + 3) ls (.ref (a 1) :: rest))) : W p l e R0 s m args below meth c H locs cells slots Q (F0 m pc ls (.ref (a 0) :: rest)) := va_get (D := D) (ci := 0) (v := .ref (a 1)) (C := RX0) (T := TX0) (N := 9) hx hb hts in_X0 hown hK hP 0 rfl rfl 1 (by decide) (hts _ q36) (fun _ h9 => h9) rfl hdg kk
theorem gD_left (hx : p.tables.exec = Jvm.exec) (hb : c.code = cc) (hts : ∀ w ∈ lw_all, w.before args s = true) (hown : s.vm.findClass RX0 = some m.cls) (hK : va_K D cd_cls tys s) (hP : va_P D cd_cls (cd_wD a d n K L R kn fd Wl hu Hl) H) (hdg : decode cc pc = .ok (.getfield 13, 3)) (kk : W p l e R0 s m args below meth c H locs cells slots Q (F0 m (pc + 3) ls (.ref (a 2) :: rest))) : W p l e R0 s m args below meth c H locs cells slots Q (F0 m pc ls (.ref (a 0) :: rest)) := va_get (D := D) (ci := 0) (v := .ref (a 2)) (C := RX0) (T := TX0) (N := 9) hx hb hts in_X0 hown hK hP 0 rfl rfl 2 (by decide) (hts _ q37) (fun _ h9 => h9) rfl hdg kk
theorem gD_right (hx : p.tables.exec = Jvm.exec) (hb : c.code = cc) (hts : ∀ w ∈ lw_all, w.before args s = true) (hown : s.vm.findClass RX0 = some m.cls) (hK : va_K D cd_cls tys s) (hP : va_P D cd_cls (cd_wD a d n K L R kn fd Wl hu Hl) H) (hdg : decode cc pc = .ok (.getfield 16, 3)) (kk : W p l e R0 s m args below meth c H locs cells slots Q (F0 m (pc + 3) ls (.ref (a 3) :: rest))) : W p l e R0 s m args below meth c H locs cells slots Q (F0 m pc ls (.ref (a 0) :: rest)) := va_get (D := D) (ci := 0) (v := .ref (a 3)) (C := RX0) (T := TX0) (N := 9) hx hb hts in_X0 hown hK hP 0 rfl rfl 3 (by decide) (hts _ q38) (fun _ h9 => h9) rfl hdg kk
theorem gD_known (hx : p.tables.exec = Jvm.exec) (hb : c.code = cc) (hts : ∀ w ∈ lw_all, w.before args s = true) (hown : s.vm.findClass RX0 = some m.cls) (hK : va_K D cd_cls tys s) (hP : va_P D cd_cls (cd_wD a d n K L R kn fd Wl hu Hl) H) (hdg : decode cc pc = .ok (.getfield 30, 3)) (kk : W p l e R0 s m args below meth c H locs cells slots Q (F0 m (pc + 3) ls (.int (cd_b kn) :: rest))) : W p l e R0 s m args below meth c H locs cells slots Q (F0 m pc ls (.ref (a 0) :: rest)) := va_get (D := D) (ci := 0) (v := .int (cd_b kn)) (C := RX0) (T := TX0) (N := 9) hx hb hts in_X0 hown hK hP 0 rfl rfl 4 (by decide) (hts _ q39) (fun _ h9 => h9) rfl hdg kk
theorem gD_found (hx : p.tables.exec = Jvm.exec) (hb : c.code = cc) (hts : ∀ w ∈ lw_all, w.before args s = true) (hown : s.vm.findClass RX0 = some m.cls) (hK : va_K D cd_cls tys s) (hP : va_P D cd_cls (cd_wD a d n K L R kn fd Wl hu Hl) H) (hdg : decode cc pc = .ok (.getfield 46, 3)) (kk : W p l e R0 s m args below meth c H locs cells slots Q (F0 m (pc + 3) ls (.int (nI fd) :: rest))) : W p l e R0 s m args below meth c H locs cells slots Q (F0 m pc ls (.ref (a 0) :: rest)) := va_get (D := D) (ci := 0) (v := .int (nI fd)) (C := RX0) (T := TX0) (N := 9) hx hb hts in_X0 hown hK hP 0 rfl rfl 5 (by decide) (hts _ q40) (fun _ h9 => h9) rfl hdg kk
theorem gD_world (hx : p.tables.exec = Jvm.exec) (hb : c.code = cc) (hts : ∀ w ∈ lw_all, w.before args s = true) (hown : s.vm.findClass RX0 = some m.cls) (hK : va_K D cd_cls tys s) (hP : va_P D cd_cls (cd_wD a d n K L R kn fd Wl hu Hl) H) (hdg : decode cc pc = .ok (.getfield 19, 3)) (kk : W p l e R0 s m args below meth c H locs cells slots Q (F0 m (pc + 3) ls (.ref (a 4) :: rest))) : W p l e R0 s m args below meth c H locs cells slots Q (F0 m pc ls (.ref (a 0) :: rest)) := va_get (D := D) (ci := 0) (v := .ref (a 4)) (C := RX0) (T := TX0) (N := 9) hx hb hts in_X0 hown hK hP 0 rfl rfl 6 (by decide) (hts _ q41) (fun _ h9 => h9) rfl hdg kk
theorem gD_hurdles (hx : p.tables.exec = Jvm.exec) (hb : c.code = cc) (hts : ∀ w ∈ lw_all, w.before args s = true) (hown : s.vm.findClass RX0 = some m.cls) (hK : va_K D cd_cls tys s) (hP : va_P D cd_cls (cd_wD a d n K L R kn fd Wl hu Hl) H) (hdg : decode cc pc = .ok (.getfield 73, 3)) (kk : W p l e R0 s m args below meth c H locs cells slots Q (F0 m (pc + 3) ls (.int (nI hu) :: rest))) : W p l e R0 s m args below meth c H locs cells slots Q (F0 m pc ls (.ref (a 0) :: rest)) := va_get (D := D) (ci := 0) (v := .int (nI hu)) (C := RX0) (T := TX0) (N := 9) hx hb hts in_X0 hown hK hP 0 rfl rfl 7 (by decide) (hts _ q42) (fun _ h9 => h9) rfl hdg kk
theorem gD_hurdle (hx : p.tables.exec = Jvm.exec) (hb : c.code = cc) (hts : ∀ w ∈ lw_all, w.before args s = true) (hown : s.vm.findClass RX0 = some m.cls) (hK : va_K D cd_cls tys s) (hP : va_P D cd_cls (cd_wD a d n K L R kn fd Wl hu Hl) H) (hdg : decode cc pc = .ok (.getfield 23, 3)) (kk : W p l e R0 s m args below meth c H locs cells slots Q (F0 m (pc + 3) ls (.ref (a 5) :: rest))) : W p l e R0 s m args below meth c H locs cells slots Q (F0 m pc ls (.ref (a 0) :: rest)) := va_get (D := D) (ci := 0) (v := .ref (a 5)) (C := RX0) (T := TX0) (N := 9) hx hb hts in_X0 hown hK hP 0 rfl rfl 8 (by decide) (hts _ q43) (fun _ h9 => h9) rfl hdg kk
theorem gM_size (hx : p.tables.exec = Jvm.exec) (hb : c.code = cc) (hts : ∀ w ∈ lw_all, w.before args s = true) (hown : s.vm.findClass RX1 = some m.cls) (hK : va_K D cd_cls tys s) (hP : va_P D cd_cls (cd_wM a d n K L R kn F T) H) (hdg : decode cc pc = .ok (.getfield 26, 3)) (kk : W p l e R0 s m args below meth c H locs cells slots Q (F0 m (pc + 3) ls (.int (nI n) :: rest))) : W p l e R0 s m args below meth c H locs cells slots Q (F0 m pc ls (.ref (a 0) :: rest)) := va_get (D := D) (ci := 1) (v := .int (nI n)) (C := RX1) (T := TX1) (N := 7) hx hb hts in_X1 hown hK hP 0 rfl rfl 0 (by decide) (hts _ q179) (fun _ h9 => h9) rfl hdg kk
theorem gM_sorts (hx : p.tables.exec = Jvm.exec) (hb : c.code = cc) (hts : ∀ w ∈ lw_all, w.before args s = true) (hown : s.vm.findClass RX1 = some m.cls) (hK : va_K D cd_cls tys s) (hP : va_P D cd_cls (cd_wM a d n K L R kn F T) H) (hdg : decode cc pc = .ok (.getfield 7, 3)) (kk : W p l e R0 s m args below meth c H locs cells slots Q (F0 m (pc + 3) ls (.ref (a 1) :: rest))) : W p l e R0 s m args below meth c H locs cells slots Q (F0 m pc ls (.ref (a 0) :: rest)) := va_get (D := D) (ci := 1) (v := .ref (a 1)) (C := RX1) (T := TX1) (N := 7) hx hb hts in_X1 hown hK hP 0 rfl rfl 1 (by decide) (hts _ q180) (fun _ h9 => h9) rfl hdg kk
theorem gM_lefts (hx : p.tables.exec = Jvm.exec) (hb : c.code = cc) (hts : ∀ w ∈ lw_all, w.before args s = true) (hown : s.vm.findClass RX1 = some m.cls) (hK : va_K D cd_cls tys s) (hP : va_P D cd_cls (cd_wM a d n K L R kn F T) H) (hdg : decode cc pc = .ok (.getfield 13, 3)) (kk : W p l e R0 s m args below meth c H locs cells slots Q (F0 m (pc + 3) ls (.ref (a 2) :: rest))) : W p l e R0 s m args below meth c H locs cells slots Q (F0 m pc ls (.ref (a 0) :: rest)) := va_get (D := D) (ci := 1) (v := .ref (a 2)) (C := RX1) (T := TX1) (N := 7) hx hb hts in_X1 hown hK hP 0 rfl rfl 2 (by decide) (hts _ q181) (fun _ h9 => h9) rfl hdg kk
theorem gM_rights (hx : p.tables.exec = Jvm.exec) (hb : c.code = cc) (hts : ∀ w ∈ lw_all, w.before args s = true) (hown : s.vm.findClass RX1 = some m.cls) (hK : va_K D cd_cls tys s) (hP : va_P D cd_cls (cd_wM a d n K L R kn F T) H) (hdg : decode cc pc = .ok (.getfield 16, 3)) (kk : W p l e R0 s m args below meth c H locs cells slots Q (F0 m (pc + 3) ls (.ref (a 3) :: rest))) : W p l e R0 s m args below meth c H locs cells slots Q (F0 m pc ls (.ref (a 0) :: rest)) := va_get (D := D) (ci := 1) (v := .ref (a 3)) (C := RX1) (T := TX1) (N := 7) hx hb hts in_X1 hown hK hP 0 rfl rfl 3 (by decide) (hts _ q182) (fun _ h9 => h9) rfl hdg kk
theorem gM_known (hx : p.tables.exec = Jvm.exec) (hb : c.code = cc) (hts : ∀ w ∈ lw_all, w.before args s = true) (hown : s.vm.findClass RX1 = some m.cls) (hK : va_K D cd_cls tys s) (hP : va_P D cd_cls (cd_wM a d n K L R kn F T) H) (hdg : decode cc pc = .ok (.getfield 34, 3)) (kk : W p l e R0 s m args below meth c H locs cells slots Q (F0 m (pc + 3) ls (.int (cd_b kn) :: rest))) : W p l e R0 s m args below meth c H locs cells slots Q (F0 m pc ls (.ref (a 0) :: rest)) := va_get (D := D) (ci := 1) (v := .int (cd_b kn)) (C := RX1) (T := TX1) (N := 7) hx hb hts in_X1 hown hK hP 0 rfl rfl 4 (by decide) (hts _ q183) (fun _ h9 => h9) rfl hdg kk
theorem gM_follow (hx : p.tables.exec = Jvm.exec) (hb : c.code = cc) (hts : ∀ w ∈ lw_all, w.before args s = true) (hown : s.vm.findClass RX1 = some m.cls) (hK : va_K D cd_cls tys s) (hP : va_P D cd_cls (cd_wM a d n K L R kn F T) H) (hdg : decode cc pc = .ok (.getfield 19, 3)) (kk : W p l e R0 s m args below meth c H locs cells slots Q (F0 m (pc + 3) ls (.ref (a 4) :: rest))) : W p l e R0 s m args below meth c H locs cells slots Q (F0 m pc ls (.ref (a 0) :: rest)) := va_get (D := D) (ci := 1) (v := .ref (a 4)) (C := RX1) (T := TX1) (N := 7) hx hb hts in_X1 hown hK hP 0 rfl rfl 5 (by decide) (hts _ q184) (fun _ h9 => h9) rfl hdg kk
theorem gM_truth (hx : p.tables.exec = Jvm.exec) (hb : c.code = cc) (hts : ∀ w ∈ lw_all, w.before args s = true) (hown : s.vm.findClass RX1 = some m.cls) (hK : va_K D cd_cls tys s) (hP : va_P D cd_cls (cd_wM a d n K L R kn F T) H) (hdg : decode cc pc = .ok (.getfield 22, 3)) (kk : W p l e R0 s m args below meth c H locs cells slots Q (F0 m (pc + 3) ls (.ref (a 5) :: rest))) : W p l e R0 s m args below meth c H locs cells slots Q (F0 m pc ls (.ref (a 0) :: rest)) := va_get (D := D) (ci := 1) (v := .ref (a 5)) (C := RX1) (T := TX1) (N := 7) hx hb hts in_X1 hown hK hP 0 rfl rfl 6 (by decide) (hts _ q185) (fun _ h9 => h9) rfl hdg kk
theorem sD_count {n' : Nat} (hx : p.tables.exec = Jvm.exec) (hb : c.code = cc) (hts : ∀ w ∈ lw_all, w.before args s = true) (hown : s.vm.findClass RX0 = some m.cls) (hK : va_K D cd_cls tys s) (hP : va_P D cd_cls (cd_wD a d n K L R kn fd Wl hu Hl) H) (hD : va_D A (cd_wD a d n K L R kn fd Wl hu Hl)) (hS : va_S A H0 H locs) (hdg : decode cc pc = .ok (.putfield 26, 3)) (kk : ∀ (H1 : Heap) (locs1 : List Loc), va_P D cd_cls (cd_wD a d n' K L R kn fd Wl hu Hl) H1 → va_D A (cd_wD a d n' K L R kn fd Wl hu Hl) → va_S A H0 H1 locs1 → W p l e R0 s m args below meth c H1 locs1 cells slots Q (F0 m (pc + 3) ls rest)) : W p l e R0 s m args below meth c H locs cells slots Q (F0 m pc ls (.int (nI n') :: .ref (a 0) :: rest)) := va_put (D := D) (ci := 0) (v := .int (nI n')) (ty := .int) (C := RX0) (T := TX0) (N := 9) hx hb hts in_X0 tyX0 tyX0_ok nmX0 hown hK hP hD hS 0 rfl rfl 0 (by decide) (hts _ q35) (fun _ h9 => h9) rfl (by decide +kernel) rfl rfl (Nat.le_of_ble_eq_true rfl) hdg kk
theorem sD_known {kn' : Prop} (hx : p.tables.exec = Jvm.exec) (hb : c.code = cc) (hts : ∀ w ∈ lw_all, w.before args s = true) (hown : s.vm.findClass RX0 = some m.cls) (hK : va_K D cd_cls tys s) (hP : va_P D cd_cls (cd_wD a d n K L R kn fd Wl hu Hl) H) (hD : va_D A (cd_wD a d n K L R kn fd Wl hu Hl)) (hS : va_S A H0 H locs) (hdg : decode cc pc = .ok (.putfield 30, 3)) (kk : ∀ (H1 : Heap) (locs1 : List Loc), va_P D cd_cls (cd_wD a d n K L R kn' fd Wl hu Hl) H1 → va_D A (cd_wD a d n K L R kn' fd Wl hu Hl) → va_S A H0 H1 locs1 → W p l e R0 s m args below meth c H1 locs1 cells slots Q (F0 m (pc + 3) ls rest)) : W p l e R0 s m args below meth c H locs cells slots Q (F0 m pc ls (.int (cd_b kn') :: .ref (a 0) :: rest)) := va_put (D := D) (ci := 0) (v := .int (cd_b kn')) (ty := .boolean) (C := RX0) (T := TX0) (N := 9) hx hb hts in_X0 tyX0 tyX0_ok nmX0 hown hK hP hD hS 0 rfl rfl 4 (by decide) (hts _ q39) (fun _ h9 => h9) rfl (by decide +kernel) (cd_nar kn') (cd_fit kn') (Nat.le_of_ble_eq_true rfl) hdg kk
theorem sD_found {fd' : Nat} (hx : p.tables.exec = Jvm.exec) (hb : c.code = cc) (hts : ∀ w ∈ lw_all, w.before args s = true) (hown : s.vm.findClass RX0 = some m.cls) (hK : va_K D cd_cls tys s) (hP : va_P D cd_cls (cd_wD a d n K L R kn fd Wl hu Hl) H) (hD : va_D A (cd_wD a d n K L R kn fd Wl hu Hl)) (hS : va_S A H0 H locs) (hdg : decode cc pc = .ok (.putfield 46, 3)) (kk : ∀ (H1 : Heap) (locs1 : List Loc), va_P D cd_cls (cd_wD a d n K L R kn fd' Wl hu Hl) H1 → va_D A (cd_wD a d n K L R kn fd' Wl hu Hl) → va_S A H0 H1 locs1 → W p l e R0 s m args below meth c H1 locs1 cells slots Q (F0 m (pc + 3) ls rest)) : W p l e R0 s m args below meth c H locs cells slots Q (F0 m pc ls (.int (nI fd') :: .ref (a 0) :: rest)) := va_put (D := D) (ci := 0) (v := .int (nI fd')) (ty := .int) (C := RX0) (T := TX0) (N := 9) hx hb hts in_X0 tyX0 tyX0_ok nmX0 hown hK hP hD hS 0 rfl rfl 5 (by decide) (hts _ q40) (fun _ h9 => h9) rfl (by decide +kernel) rfl rfl (Nat.le_of_ble_eq_true rfl) hdg kk
theorem sD_hurdles {hu' : Nat} (hx : p.tables.exec = Jvm.exec) (hb : c.code = cc) (hts : ∀ w ∈ lw_all, w.before args s = true) (hown : s.vm.findClass RX0 = some m.cls) (hK : va_K D cd_cls tys s) (hP : va_P D cd_cls (cd_wD a d n K L R kn fd Wl hu Hl) H) (hD : va_D A (cd_wD a d n K L R kn fd Wl hu Hl)) (hS : va_S A H0 H locs) (hdg : decode cc pc = .ok (.putfield 73, 3)) (kk : ∀ (H1 : Heap) (locs1 : List Loc), va_P D cd_cls (cd_wD a d n K L R kn fd Wl hu' Hl) H1 → va_D A (cd_wD a d n K L R kn fd Wl hu' Hl) → va_S A H0 H1 locs1 → W p l e R0 s m args below meth c H1 locs1 cells slots Q (F0 m (pc + 3) ls rest)) : W p l e R0 s m args below meth c H locs cells slots Q (F0 m pc ls (.int (nI hu') :: .ref (a 0) :: rest)) := va_put (D := D) (ci := 0) (v := .int (nI hu')) (ty := .int) (C := RX0) (T := TX0) (N := 9) hx hb hts in_X0 tyX0 tyX0_ok nmX0 hown hK hP hD hS 0 rfl rfl 7 (by decide) (hts _ q42) (fun _ h9 => h9) rfl (by decide +kernel) rfl rfl (Nat.le_of_ble_eq_true rfl) hdg kk
theorem sM_size {n' : Nat} (hx : p.tables.exec = Jvm.exec) (hb : c.code = cc) (hts : ∀ w ∈ lw_all, w.before args s = true) (hown : s.vm.findClass RX1 = some m.cls) (hK : va_K D cd_cls tys s) (hP : va_P D cd_cls (cd_wM a d n K L R kn F T) H) (hD : va_D A (cd_wM a d n K L R kn F T)) (hS : va_S A H0 H locs) (hdg : decode cc pc = .ok (.putfield 26, 3)) (kk : ∀ (H1 : Heap) (locs1 : List Loc), va_P D cd_cls (cd_wM a d n' K L R kn F T) H1 → va_D A (cd_wM a d n' K L R kn F T) → va_S A H0 H1 locs1 → W p l e R0 s m args below meth c H1 locs1 cells slots Q (F0 m (pc + 3) ls rest)) : W p l e R0 s m args below meth c H locs cells slots Q (F0 m pc ls (.int (nI n') :: .ref (a 0) :: rest)) := va_put (D := D) (ci := 1) (v := .int (nI n')) (ty := .int) (C := RX1) (T := TX1) (N := 7) hx hb hts in_X1 tyX1 tyX1_ok nmX1 hown hK hP hD hS 0 rfl rfl 0 (by decide) (hts _ q179) (fun _ h9 => h9) rfl (by decide +kernel) rfl rfl (Nat.le_of_ble_eq_true rfl) hdg kk
theorem sM_known {kn' : Prop} (hx : p.tables.exec = Jvm.exec) (hb : c.code = cc) (hts : ∀ w ∈ lw_all, w.before args s = true) (hown : s.vm.findClass RX1 = some m.cls) (hK : va_K D cd_cls tys s) (hP : va_P D cd_cls (cd_wM a d n K L R kn F T) H) (hD : va_D A (cd_wM a d n K L R kn F T)) (hS : va_S A H0 H locs) (hdg : decode cc pc = .ok (.putfield 34, 3)) (kk : ∀ (H1 : Heap) (locs1 : List Loc), va_P D cd_cls (cd_wM a d n K L R kn' F T) H1 → va_D A (cd_wM a d n K L R kn' F T) → va_S A H0 H1 locs1 → W p l e R0 s m args below meth c H1 locs1 cells slots Q (F0 m (pc + 3) ls rest)) : W p l e R0 s m args below meth c H locs cells slots Q (F0 m pc ls (.int (cd_b kn') :: .ref (a 0) :: rest)) := va_put (D := D) (ci := 1) (v := .int (cd_b kn')) (ty := .boolean) (C := RX1) (T := TX1) (N := 7) hx hb hts in_X1 tyX1 tyX1_ok nmX1 hown hK hP hD hS 0 rfl rfl 4 (by decide) (hts _ q183) (fun _ h9 => h9) rfl (by decide +kernel) (cd_nar kn') (cd_fit kn') (Nat.le_of_ble_eq_true rfl) hdg kk
theorem lD_kind {j : Nat} (hx : p.tables.exec = Jvm.exec) (hb : c.code = cc) (hK : va_K D cd_cls (cd_tD d) s) (hP : va_P D cd_cls (cd_wD a d n K L R kn fd Wl hu Hl) H) (hj : j < 11) (hdg : decode cc pc = .ok (.baload, 1)) (kk : W p l e R0 s m args below meth c H locs cells slots Q (F0 m (pc + 1) ls (.int (nI (K j)) :: rest))) : W p l e R0 s m args below meth c H locs cells slots Q (F0 m pc ls (.int (nI j) :: .ref (a 1) :: rest)) := by
  refine va_bald hx hb hK hP 1 0 rfl rfl (vp_in_nI hj (by decide)) hdg ?_
  rw [nI_clamp (by omega)]
  exact kk
theorem lD_left {j : Nat} (hx : p.tables.exec = Jvm.exec) (hb : c.code = cc) (hK : va_K D cd_cls (cd_tD d) s) (hP : va_P D cd_cls (cd_wD a d n K L R kn fd Wl hu Hl) H) (hj : j < 11) (hdg : decode cc pc = .ok (.baload, 1)) (kk : W p l e R0 s m args below meth c H locs cells slots Q (F0 m (pc + 1) ls (.int (nI (L j)) :: rest))) : W p l e R0 s m args below meth c H locs cells slots Q (F0 m pc ls (.int (nI j) :: .ref (a 2) :: rest)) := by
  refine va_bald hx hb hK hP 2 1 rfl rfl (vp_in_nI hj (by decide)) hdg ?_
  rw [nI_clamp (by omega)]
  exact kk
theorem lD_right {j : Nat} (hx : p.tables.exec = Jvm.exec) (hb : c.code = cc) (hK : va_K D cd_cls (cd_tD d) s) (hP : va_P D cd_cls (cd_wD a d n K L R kn fd Wl hu Hl) H) (hj : j < 11) (hdg : decode cc pc = .ok (.baload, 1)) (kk : W p l e R0 s m args below meth c H locs cells slots Q (F0 m (pc + 1) ls (.int (nI (R j)) :: rest))) : W p l e R0 s m args below meth c H locs cells slots Q (F0 m pc ls (.int (nI j) :: .ref (a 3) :: rest)) := by
  refine va_bald hx hb hK hP 3 2 rfl rfl (vp_in_nI hj (by decide)) hdg ?_
  rw [nI_clamp (by omega)]
  exact kk
theorem lD_world {j : Nat} (hx : p.tables.exec = Jvm.exec) (hb : c.code = cc) (hK : va_K D cd_cls (cd_tD d) s) (hP : va_P D cd_cls (cd_wD a d n K L R kn fd Wl hu Hl) H) (hj : j < 2048) (hdg : decode cc pc = .ok (.saload, 1)) (kk : W p l e R0 s m args below meth c H locs cells slots Q (F0 m (pc + 1) ls (.int (nI (Wl j)) :: rest))) : W p l e R0 s m args below meth c H locs cells slots Q (F0 m pc ls (.int (nI j) :: .ref (a 4) :: rest)) := by
  refine va_sald hx hb hK hP 4 3 rfl rfl (vp_in_nI hj (by decide)) hdg ?_
  rw [nI_clamp (by omega)]
  exact kk
theorem lD_hurdle {j : Nat} (hx : p.tables.exec = Jvm.exec) (hb : c.code = cc) (hK : va_K D cd_cls (cd_tD d) s) (hP : va_P D cd_cls (cd_wD a d n K L R kn fd Wl hu Hl) H) (hj : j < 2048) (hdg : decode cc pc = .ok (.saload, 1)) (kk : W p l e R0 s m args below meth c H locs cells slots Q (F0 m (pc + 1) ls (.int (nI (Hl j)) :: rest))) : W p l e R0 s m args below meth c H locs cells slots Q (F0 m pc ls (.int (nI j) :: .ref (a 5) :: rest)) := by
  refine va_sald hx hb hK hP 5 4 rfl rfl (vp_in_nI hj (by decide)) hdg ?_
  rw [nI_clamp (by omega)]
  exact kk
theorem lM_sorts {j : Nat} (hx : p.tables.exec = Jvm.exec) (hb : c.code = cc) (hK : va_K D cd_cls (cd_tM d) s) (hP : va_P D cd_cls (cd_wM a d n K L R kn F T) H) (hj : j < 11) (hdg : decode cc pc = .ok (.iaload, 1)) (kk : W p l e R0 s m args below meth c H locs cells slots Q (F0 m (pc + 1) ls (.int (nI (K j)) :: rest))) : W p l e R0 s m args below meth c H locs cells slots Q (F0 m pc ls (.int (nI j) :: .ref (a 1) :: rest)) := by
  refine va_iald hx hb hK hP 1 0 rfl rfl (vp_in_nI hj (by decide)) hdg ?_
  rw [nI_clamp (by omega)]
  exact kk
theorem lM_lefts {j : Nat} (hx : p.tables.exec = Jvm.exec) (hb : c.code = cc) (hK : va_K D cd_cls (cd_tM d) s) (hP : va_P D cd_cls (cd_wM a d n K L R kn F T) H) (hj : j < 11) (hdg : decode cc pc = .ok (.iaload, 1)) (kk : W p l e R0 s m args below meth c H locs cells slots Q (F0 m (pc + 1) ls (.int (nI (L j)) :: rest))) : W p l e R0 s m args below meth c H locs cells slots Q (F0 m pc ls (.int (nI j) :: .ref (a 2) :: rest)) := by
  refine va_iald hx hb hK hP 2 1 rfl rfl (vp_in_nI hj (by decide)) hdg ?_
  rw [nI_clamp (by omega)]
  exact kk
theorem lM_rights {j : Nat} (hx : p.tables.exec = Jvm.exec) (hb : c.code = cc) (hK : va_K D cd_cls (cd_tM d) s) (hP : va_P D cd_cls (cd_wM a d n K L R kn F T) H) (hj : j < 11) (hdg : decode cc pc = .ok (.iaload, 1)) (kk : W p l e R0 s m args below meth c H locs cells slots Q (F0 m (pc + 1) ls (.int (nI (R j)) :: rest))) : W p l e R0 s m args below meth c H locs cells slots Q (F0 m pc ls (.int (nI j) :: .ref (a 3) :: rest)) := by
  refine va_iald hx hb hK hP 3 2 rfl rfl (vp_in_nI hj (by decide)) hdg ?_
  rw [nI_clamp (by omega)]
  exact kk
theorem lM_follow {j : Nat} (hx : p.tables.exec = Jvm.exec) (hb : c.code = cc) (hK : va_K D cd_cls (cd_tM d) s) (hP : va_P D cd_cls (cd_wM a d n K L R kn F T) H) (hj : j < 2048) (hdg : decode cc pc = .ok (.iaload, 1)) (kk : W p l e R0 s m args below meth c H locs cells slots Q (F0 m (pc + 1) ls (.int (nI (F j)) :: rest))) : W p l e R0 s m args below meth c H locs cells slots Q (F0 m pc ls (.int (nI j) :: .ref (a 4) :: rest)) := by
  refine va_iald hx hb hK hP 4 3 rfl rfl (vp_in_nI hj (by decide)) hdg ?_
  rw [nI_clamp (by omega)]
  exact kk
theorem lM_truth {j : Nat} (hx : p.tables.exec = Jvm.exec) (hb : c.code = cc) (hK : va_K D cd_cls (cd_tM d) s) (hP : va_P D cd_cls (cd_wM a d n K L R kn F T) H) (hj : j < 11) (hdg : decode cc pc = .ok (.baload, 1)) (kk : W p l e R0 s m args below meth c H locs cells slots Q (F0 m (pc + 1) ls (.int (cd_b (T j)) :: rest))) : W p l e R0 s m args below meth c H locs cells slots Q (F0 m pc ls (.int (nI j) :: .ref (a 5) :: rest)) := by
  refine va_zald hx hb hK hP 5 4 rfl rfl (vp_in_nI hj (by decide)) hdg ?_
  rw [nI_clamp (by omega)]
  exact kk
theorem tD_kind {j v : Nat} (hx : p.tables.exec = Jvm.exec) (hb : c.code = cc) (hK : va_K D cd_cls (cd_tD d) s) (hP : va_P D cd_cls (cd_wD a d n K L R kn fd Wl hu Hl) H) (hD : va_D A (cd_wD a d n K L R kn fd Wl hu Hl)) (hS : va_S A H0 H locs) (hj : j < 11) (hv : v < 128) (hdg : decode cc pc = .ok (.bastore, 1)) (kk : ∀ (H1 : Heap) (locs1 : List Loc), va_P D cd_cls (cd_wD a d n (cd_up K j v) L R kn fd Wl hu Hl) H1 → va_D A (cd_wD a d n (cd_up K j v) L R kn fd Wl hu Hl) → va_S A H0 H1 locs1 → W p l e R0 s m args below meth c H1 locs1 cells slots Q (F0 m (pc + 1) ls rest)) : W p l e R0 s m args below meth c H locs cells slots Q (F0 m pc ls (.int (nI v) :: .int (nI j) :: .ref (a 1) :: rest)) := by
  refine va_bast hx hb hK hP hD hS 1 0 rfl rfl (vp_in_nI hj (by decide)) hdg (fun H1 locs1 g1 g2 g3 => ?_)
  rw [nI_clamp (by omega), cd_vb v hv, cd_upd] at g1 g2
  exact kk H1 locs1 g1 g2 g3
theorem tD_left {j v : Nat} (hx : p.tables.exec = Jvm.exec) (hb : c.code = cc) (hK : va_K D cd_cls (cd_tD d) s) (hP : va_P D cd_cls (cd_wD a d n K L R kn fd Wl hu Hl) H) (hD : va_D A (cd_wD a d n K L R kn fd Wl hu Hl)) (hS : va_S A H0 H locs) (hj : j < 11) (hv : v < 128) (hdg : decode cc pc = .ok (.bastore, 1)) (kk : ∀ (H1 : Heap) (locs1 : List Loc), va_P D cd_cls (cd_wD a d n K (cd_up L j v) R kn fd Wl hu Hl) H1 → va_D A (cd_wD a d n K (cd_up L j v) R kn fd Wl hu Hl) → va_S A H0 H1 locs1 → W p l e R0 s m args below meth c H1 locs1 cells slots Q (F0 m (pc + 1) ls rest)) : W p l e R0 s m args below meth c H locs cells slots Q (F0 m pc ls (.int (nI v) :: .int (nI j) :: .ref (a 2) :: rest)) := by
  refine va_bast hx hb hK hP hD hS 2 1 rfl rfl (vp_in_nI hj (by decide)) hdg (fun H1 locs1 g1 g2 g3 => ?_)
  rw [nI_clamp (by omega), cd_vb v hv, cd_upd] at g1 g2
  exact kk H1 locs1 g1 g2 g3
theorem tD_right {j v : Nat} (hx : p.tables.exec = Jvm.exec) (hb : c.code = cc) (hK : va_K D cd_cls (cd_tD d) s) (hP : va_P D cd_cls (cd_wD a d n K L R kn fd Wl hu Hl) H) (hD : va_D A (cd_wD a d n K L R kn fd Wl hu Hl)) (hS : va_S A H0 H locs) (hj : j < 11) (hv : v < 128) (hdg : decode cc pc = .ok (.bastore, 1)) (kk : ∀ (H1 : Heap) (locs1 : List Loc), va_P D cd_cls (cd_wD a d n K L (cd_up R j v) kn fd Wl hu Hl) H1 → va_D A (cd_wD a d n K L (cd_up R j v) kn fd Wl hu Hl) → va_S A H0 H1 locs1 → W p l e R0 s m args below meth c H1 locs1 cells slots Q (F0 m (pc + 1) ls rest)) : W p l e R0 s m args below meth c H locs cells slots Q (F0 m pc ls (.int (nI v) :: .int (nI j) :: .ref (a 3) :: rest)) := by
  refine va_bast hx hb hK hP hD hS 3 2 rfl rfl (vp_in_nI hj (by decide)) hdg (fun H1 locs1 g1 g2 g3 => ?_)
  rw [nI_clamp (by omega), cd_vb v hv, cd_upd] at g1 g2
  exact kk H1 locs1 g1 g2 g3
theorem tD_world {j v : Nat} (hx : p.tables.exec = Jvm.exec) (hb : c.code = cc) (hK : va_K D cd_cls (cd_tD d) s) (hP : va_P D cd_cls (cd_wD a d n K L R kn fd Wl hu Hl) H) (hD : va_D A (cd_wD a d n K L R kn fd Wl hu Hl)) (hS : va_S A H0 H locs) (hj : j < 2048) (hv : v < 32768) (hdg : decode cc pc = .ok (.sastore, 1)) (kk : ∀ (H1 : Heap) (locs1 : List Loc), va_P D cd_cls (cd_wD a d n K L R kn fd (cd_up Wl j v) hu Hl) H1 → va_D A (cd_wD a d n K L R kn fd (cd_up Wl j v) hu Hl) → va_S A H0 H1 locs1 → W p l e R0 s m args below meth c H1 locs1 cells slots Q (F0 m (pc + 1) ls rest)) : W p l e R0 s m args below meth c H locs cells slots Q (F0 m pc ls (.int (nI v) :: .int (nI j) :: .ref (a 4) :: rest)) := by
  refine va_sast hx hb hK hP hD hS 4 3 rfl rfl (vp_in_nI hj (by decide)) hdg (fun H1 locs1 g1 g2 g3 => ?_)
  rw [nI_clamp (by omega), cd_vs hv, cd_upd] at g1 g2
  exact kk H1 locs1 g1 g2 g3
theorem tD_hurdle {j v : Nat} (hx : p.tables.exec = Jvm.exec) (hb : c.code = cc) (hK : va_K D cd_cls (cd_tD d) s) (hP : va_P D cd_cls (cd_wD a d n K L R kn fd Wl hu Hl) H) (hD : va_D A (cd_wD a d n K L R kn fd Wl hu Hl)) (hS : va_S A H0 H locs) (hj : j < 2048) (hv : v < 32768) (hdg : decode cc pc = .ok (.sastore, 1)) (kk : ∀ (H1 : Heap) (locs1 : List Loc), va_P D cd_cls (cd_wD a d n K L R kn fd Wl hu (cd_up Hl j v)) H1 → va_D A (cd_wD a d n K L R kn fd Wl hu (cd_up Hl j v)) → va_S A H0 H1 locs1 → W p l e R0 s m args below meth c H1 locs1 cells slots Q (F0 m (pc + 1) ls rest)) : W p l e R0 s m args below meth c H locs cells slots Q (F0 m pc ls (.int (nI v) :: .int (nI j) :: .ref (a 5) :: rest)) := by
  refine va_sast hx hb hK hP hD hS 5 4 rfl rfl (vp_in_nI hj (by decide)) hdg (fun H1 locs1 g1 g2 g3 => ?_)
  rw [nI_clamp (by omega), cd_vs hv, cd_upd] at g1 g2
  exact kk H1 locs1 g1 g2 g3
theorem tM_sorts {j v : Nat} (hx : p.tables.exec = Jvm.exec) (hb : c.code = cc) (hK : va_K D cd_cls (cd_tM d) s) (hP : va_P D cd_cls (cd_wM a d n K L R kn F T) H) (hD : va_D A (cd_wM a d n K L R kn F T)) (hS : va_S A H0 H locs) (hj : j < 11)  (hdg : decode cc pc = .ok (.iastore, 1)) (kk : ∀ (H1 : Heap) (locs1 : List Loc), va_P D cd_cls (cd_wM a d n (cd_up K j v) L R kn F T) H1 → va_D A (cd_wM a d n (cd_up K j v) L R kn F T) → va_S A H0 H1 locs1 → W p l e R0 s m args below meth c H1 locs1 cells slots Q (F0 m (pc + 1) ls rest)) : W p l e R0 s m args below meth c H locs cells slots Q (F0 m pc ls (.int (nI v) :: .int (nI j) :: .ref (a 1) :: rest)) := by
  refine va_iast hx hb hK hP hD hS 1 0 rfl rfl (vp_in_nI hj (by decide)) hdg (fun H1 locs1 g1 g2 g3 => ?_)
  rw [nI_clamp (by omega), cd_upd] at g1 g2
  exact kk H1 locs1 g1 g2 g3
theorem tM_lefts {j v : Nat} (hx : p.tables.exec = Jvm.exec) (hb : c.code = cc) (hK : va_K D cd_cls (cd_tM d) s) (hP : va_P D cd_cls (cd_wM a d n K L R kn F T) H) (hD : va_D A (cd_wM a d n K L R kn F T)) (hS : va_S A H0 H locs) (hj : j < 11)  (hdg : decode cc pc = .ok (.iastore, 1)) (kk : ∀ (H1 : Heap) (locs1 : List Loc), va_P D cd_cls (cd_wM a d n K (cd_up L j v) R kn F T) H1 → va_D A (cd_wM a d n K (cd_up L j v) R kn F T) → va_S A H0 H1 locs1 → W p l e R0 s m args below meth c H1 locs1 cells slots Q (F0 m (pc + 1) ls rest)) : W p l e R0 s m args below meth c H locs cells slots Q (F0 m pc ls (.int (nI v) :: .int (nI j) :: .ref (a 2) :: rest)) := by
  refine va_iast hx hb hK hP hD hS 2 1 rfl rfl (vp_in_nI hj (by decide)) hdg (fun H1 locs1 g1 g2 g3 => ?_)
  rw [nI_clamp (by omega), cd_upd] at g1 g2
  exact kk H1 locs1 g1 g2 g3
theorem tM_rights {j v : Nat} (hx : p.tables.exec = Jvm.exec) (hb : c.code = cc) (hK : va_K D cd_cls (cd_tM d) s) (hP : va_P D cd_cls (cd_wM a d n K L R kn F T) H) (hD : va_D A (cd_wM a d n K L R kn F T)) (hS : va_S A H0 H locs) (hj : j < 11)  (hdg : decode cc pc = .ok (.iastore, 1)) (kk : ∀ (H1 : Heap) (locs1 : List Loc), va_P D cd_cls (cd_wM a d n K L (cd_up R j v) kn F T) H1 → va_D A (cd_wM a d n K L (cd_up R j v) kn F T) → va_S A H0 H1 locs1 → W p l e R0 s m args below meth c H1 locs1 cells slots Q (F0 m (pc + 1) ls rest)) : W p l e R0 s m args below meth c H locs cells slots Q (F0 m pc ls (.int (nI v) :: .int (nI j) :: .ref (a 3) :: rest)) := by
  refine va_iast hx hb hK hP hD hS 3 2 rfl rfl (vp_in_nI hj (by decide)) hdg (fun H1 locs1 g1 g2 g3 => ?_)
  rw [nI_clamp (by omega), cd_upd] at g1 g2
  exact kk H1 locs1 g1 g2 g3
theorem tM_follow {j v : Nat} (hx : p.tables.exec = Jvm.exec) (hb : c.code = cc) (hK : va_K D cd_cls (cd_tM d) s) (hP : va_P D cd_cls (cd_wM a d n K L R kn F T) H) (hD : va_D A (cd_wM a d n K L R kn F T)) (hS : va_S A H0 H locs) (hj : j < 2048)  (hdg : decode cc pc = .ok (.iastore, 1)) (kk : ∀ (H1 : Heap) (locs1 : List Loc), va_P D cd_cls (cd_wM a d n K L R kn (cd_up F j v) T) H1 → va_D A (cd_wM a d n K L R kn (cd_up F j v) T) → va_S A H0 H1 locs1 → W p l e R0 s m args below meth c H1 locs1 cells slots Q (F0 m (pc + 1) ls rest)) : W p l e R0 s m args below meth c H locs cells slots Q (F0 m pc ls (.int (nI v) :: .int (nI j) :: .ref (a 4) :: rest)) := by
  refine va_iast hx hb hK hP hD hS 4 3 rfl rfl (vp_in_nI hj (by decide)) hdg (fun H1 locs1 g1 g2 g3 => ?_)
  rw [nI_clamp (by omega), cd_upd] at g1 g2
  exact kk H1 locs1 g1 g2 g3
theorem tM_truth {j : Nat} {v : Prop} (hx : p.tables.exec = Jvm.exec) (hb : c.code = cc) (hK : va_K D cd_cls (cd_tM d) s) (hP : va_P D cd_cls (cd_wM a d n K L R kn F T) H) (hD : va_D A (cd_wM a d n K L R kn F T)) (hS : va_S A H0 H locs) (hj : j < 11)  (hdg : decode cc pc = .ok (.bastore, 1)) (kk : ∀ (H1 : Heap) (locs1 : List Loc), va_P D cd_cls (cd_wM a d n K L R kn F (cd_upP T j v)) H1 → va_D A (cd_wM a d n K L R kn F (cd_upP T j v)) → va_S A H0 H1 locs1 → W p l e R0 s m args below meth c H1 locs1 cells slots Q (F0 m (pc + 1) ls rest)) : W p l e R0 s m args below meth c H locs cells slots Q (F0 m pc ls (.int (cd_b v) :: .int (nI j) :: .ref (a 5) :: rest)) := by
  refine va_zast hx hb hK hP hD hS 5 4 rfl rfl (vp_in_nI hj (by decide)) hdg (fun H1 locs1 g1 g2 g3 => ?_)
  rw [nI_clamp (by omega), cd_vnar, cd_updP] at g1 g2
  exact kk H1 locs1 g1 g2 g3
/-- a contract of a method that only reads -/
def cd_RO (l : Launch) (y : MethodName) (ws : List Cond) (rm : Room) (D : va_G) (tys : List (ClassId × FieldType)) (wc : va_W) (av : List Value) (v : Int32) : Prop := Met l y ws rm (va_Pc av (fun U => va_P D cd_cls wc U.heap ∧ va_K D cd_cls tys U)) (QcRead v) 0 0 (fun _ => False)
/-- a contract of a method that writes in its object and answers an int; of one that answers nothing -/
def cd_RW {S : Type} (l : Launch) (y : MethodName) (ws : List Cond) (rm : Room) (D : va_G) (tys : List (ClassId × FieldType)) (wc : va_W) (av : List Value) (post : Int32 → S → Prop) (w' : S → va_W) : Prop := ∀ sz : Nat, Met l y ws rm (va_Pc av (fun U => U.heap.size = sz ∧ va_P D cd_cls wc U.heap ∧ va_K D cd_cls tys U ∧ va_D (fun _ => True) wc)) (va_Qi post (fun u t => va_P D cd_cls (w' u) t.heap ∧ va_D (va_A wc sz) (w' u)) (va_A wc sz)) 0 0 (va_A wc sz)
def cd_RV {S : Type} (l : Launch) (y : MethodName) (ws : List Cond) (rm : Room) (D : va_G) (tys : List (ClassId × FieldType)) (wc : va_W) (av : List Value) (post : S → Prop) (w' : S → va_W) : Prop := ∀ sz : Nat, Met l y ws rm (va_Pc av (fun U => U.heap.size = sz ∧ va_P D cd_cls wc U.heap ∧ va_K D cd_cls tys U ∧ va_D (fun _ => True) wc)) (va_Qv post (fun u t => va_P D cd_cls (w' u) t.heap ∧ va_D (va_A wc sz) (w' u)) (va_A wc sz)) 0 0 (va_A wc sz)
theorem cd_callRO {y : MethodName} {ws : List Cond} {rm : Room} {wc : va_W} {b : Nat} {As : List Value} {own C : String} {index : Nat} {bytes : ByteArray} {maxL : Nat} {ret : Option FieldType} {k nL : Nat} {ci : Nat} {q : vw_C} {fs : List Value} {st0 : List Value} {v : Int32} (S0 : CallFix p m c cc nL s args lw_all own) (hM : cd_RO l y ws rm D tys wc (.ref b :: As) v) (cw : CallW R0 s args own C index y bytes maxL ret ws rm 0 0 k) (hc : cd_cls[ci]? = some q) (hq : q.1 = C) (he : wc[0]? = some (b, .inr (ci, fs))) (hP : va_P D cd_cls wc H) (hK : va_K D cd_cls tys s) (hn : As.length = k) (hsize : ls.size = nL) (hst : st0 = As.reverse ++ .ref b :: rest) (hroom : (rest.map fun v => v.category).sum ≤ 8) (hdg : decode cc pc = .ok (.invokevirtual index, 3)) (hf : cells ≤ R0.cells ∧ slots ≤ R0.slots) (kk : W p l e R0 s m args below meth c H locs cells slots Q (F0 m (pc + 3) ls (.int v :: rest))) : W p l e R0 s m args below meth c H locs cells slots Q (F0 m pc ls st0) := by
  refine W.callR (g := F0 m pc ls st0) (W.runV (g := F0 m pc ls st0) (As := As) (rest := rest) (b := b) S0 hM cw ⟨?_, ?_, ?_⟩ rfl hn hsize hst (lv_room hroom) hdg hf) kk
  · intro a U g mk h
    obtain ⟨h0, h1, h2⟩ := h
    exact ⟨h0, h1, va_K.moved (u := U) (U := U.calling g mk a) (Vm.Alike.refl U.vm) h2⟩
  · subst hq
    exact va_recv hK hP hc he
  · intro U hU hW
    exact ⟨rfl, by rw [hU]; exact hP, va_K.moved hW.alike hK⟩
theorem cd_inA {wc : va_W} (hD : va_D A wc) (hS : va_S A H0 H locs) (hA : ∀ q, H0.size ≤ q → A q) : ∀ q, va_A wc H.size q → A q := by
  intro q h
  rcases h with ⟨k, e, h⟩ | h
  · exact hD.2 k (q, e) h
  · exact hA q (Nat.le_trans hS.1 h)
theorem cd_callRW {y : MethodName} {ws : List Cond} {rm : Room} {wc : va_W} {b : Nat} {As : List Value} {own C : String} {index : Nat} {bytes : ByteArray} {maxL : Nat} {ret : Option FieldType} {k nL : Nat} {ci : Nat} {q : vw_C} {fs : List Value} {st0 : List Value} {S : Type} {post : Int32 → S → Prop} {w' : S → va_W} (S0 : CallFix p m c cc nL s args lw_all own) (hM : cd_RW l y ws rm D tys wc (.ref b :: As) post w') (cw : CallW R0 s args own C index y bytes maxL ret ws rm 0 0 k) (hc : cd_cls[ci]? = some q) (hq : q.1 = C) (he : wc[0]? = some (b, .inr (ci, fs))) (hP : va_P D cd_cls wc H) (hK : va_K D cd_cls tys s) (hD : va_D A wc) (hS : va_S A H0 H locs) (hA : ∀ q, H0.size ≤ q → A q) (hn : As.length = k) (hsize : ls.size = nL) (hst : st0 = As.reverse ++ .ref b :: rest) (hroom : (rest.map fun v => v.category).sum ≤ 8) (hdg : decode cc pc = .ok (.invokevirtual index, 3)) (hf : cells ≤ R0.cells ∧ slots ≤ R0.slots) (kk : ∀ (r : Int32) (u : S) (H1 : Heap) (locs1 : List Loc), post r u → va_P D cd_cls (w' u) H1 → va_D A (w' u) → va_S A H0 H1 locs1 → W p l e R0 s m args below meth c H1 locs1 cells slots Q (F0 m (pc + 3) ls (.int r :: rest))) : W p l e R0 s m args below meth c H locs cells slots Q (F0 m pc ls st0) := by
  have hF := cd_inA hD hS hA
  refine va_calli (va_runV (g := F0 m pc ls st0) (As := As) (rest := rest) (b := b) S0 (hM H.size) cw ⟨?_, ?_, ?_⟩ rfl hn hsize hst (lv_room hroom) hdg hf) hS (fun q _ h => hF q h) hF (fun r u t H1 locs1 ht hvm hpost hB hz hk hS1 => ?_)
  · intro a U g mk h
    obtain ⟨h0, h1, h2, h3, h4⟩ := h
    exact ⟨h0, h1, h2, va_K.moved (u := U) (U := U.calling g mk a) (Vm.Alike.refl U.vm) h3, h4⟩
  · subst hq
    exact va_recv hK hP hc he
  · intro U hU hW
    exact ⟨rfl, by rw [hU], by rw [hU]; exact hP, va_K.moved hW.alike hK, hD.weaken (fun _ _ _ _ => trivial)⟩
  · obtain ⟨hP1, hD1⟩ := hB
    rw [ht] at hP1
    exact kk r u H1 locs1 hpost hP1 (hD1.weaken (fun k q _ h => hF _ h)) hS1
theorem cd_callRV {y : MethodName} {ws : List Cond} {rm : Room} {wc : va_W} {b : Nat} {As : List Value} {own C : String} {index : Nat} {bytes : ByteArray} {maxL : Nat} {ret : Option FieldType} {k nL : Nat} {ci : Nat} {q : vw_C} {fs : List Value} {st0 : List Value} {S : Type} {post : S → Prop} {w' : S → va_W} (S0 : CallFix p m c cc nL s args lw_all own) (hM : cd_RV l y ws rm D tys wc (.ref b :: As) post w') (cw : CallW R0 s args own C index y bytes maxL ret ws rm 0 0 k) (hc : cd_cls[ci]? = some q) (hq : q.1 = C) (he : wc[0]? = some (b, .inr (ci, fs))) (hP : va_P D cd_cls wc H) (hK : va_K D cd_cls tys s) (hD : va_D A wc) (hS : va_S A H0 H locs) (hA : ∀ q, H0.size ≤ q → A q) (hn : As.length = k) (hsize : ls.size = nL) (hst : st0 = As.reverse ++ .ref b :: rest) (hroom : (rest.map fun v => v.category).sum ≤ 8) (hdg : decode cc pc = .ok (.invokevirtual index, 3)) (hf : cells ≤ R0.cells ∧ slots ≤ R0.slots) (kk : ∀ (u : S) (H1 : Heap) (locs1 : List Loc), post u → va_P D cd_cls (w' u) H1 → va_D A (w' u) → va_S A H0 H1 locs1 → W p l e R0 s m args below meth c H1 locs1 cells slots Q (F0 m (pc + 3) ls rest)) : W p l e R0 s m args below meth c H locs cells slots Q (F0 m pc ls st0) := by
  have hF := cd_inA hD hS hA
  refine va_callv (va_runV (g := F0 m pc ls st0) (As := As) (rest := rest) (b := b) S0 (hM H.size) cw ⟨?_, ?_, ?_⟩ rfl hn hsize hst (lv_room hroom) hdg hf) hS (fun q _ h => hF q h) hF (fun u t H1 locs1 ht hvm hpost hB hz hk hS1 => ?_)
  · intro a U g mk h
    obtain ⟨h0, h1, h2, h3, h4⟩ := h
    exact ⟨h0, h1, h2, va_K.moved (u := U) (U := U.calling g mk a) (Vm.Alike.refl U.vm) h3, h4⟩
  · subst hq
    exact va_recv hK hP hc he
  · intro U hU hW
    exact ⟨rfl, by rw [hU], by rw [hU]; exact hP, va_K.moved hW.alike hK, hD.weaken (fun _ _ _ _ => trivial)⟩
  · obtain ⟨hP1, hD1⟩ := hB
    rw [ht] at hP1
    exact kk u H1 locs1 hpost hP1 (hD1.weaken (fun k q _ h => hF _ h)) hS1
/-- a loop that writes nothing; a loop that writes -/
theorem cd_loopR (I : Nat → Array Slot → Prop) (hs : ∀ N ls, I N ls → (∀ N' ls', N' < N → I N' ls' → W p l e R0 s m args below meth c H locs cells slots Q (F0 m pc ls' [])) → W p l e R0 s m args below meth c H locs cells slots Q (F0 m pc ls [])) (N : Nat) (h : I N ls) : W p l e R0 s m args below meth c H locs cells slots Q (F0 m pc ls []) := by
  have main : ∀ k N ls, N ≤ k → I N ls → W p l e R0 s m args below meth c H locs cells slots Q (F0 m pc ls []) := by
    intro k
    induction k with
    | zero => intro N ls hk hI; exact hs N ls hI (fun N' ls' h => by omega)
    | succ k ih => intro N ls hk hI; exact hs N ls hI (fun N' ls' h hI' => ih N' ls' (by omega) hI')
  exact main N N ls (Nat.le_refl _) h
theorem cd_loopW (I : Nat → Heap → List Loc → Array Slot → Prop) (hs : ∀ N H locs ls, I N H locs ls → (∀ N' H' locs' ls', N' < N → I N' H' locs' ls' → W p l e R0 s m args below meth c H' locs' cells slots Q (F0 m pc ls' [])) → W p l e R0 s m args below meth c H locs cells slots Q (F0 m pc ls [])) (N : Nat) (h : I N H locs ls) : W p l e R0 s m args below meth c H locs cells slots Q (F0 m pc ls []) := by
  have main : ∀ k N H locs ls, N ≤ k → I N H locs ls → W p l e R0 s m args below meth c H locs cells slots Q (F0 m pc ls []) := by
    intro k
    induction k with
    | zero => intro N H locs ls hk hI; exact hs N H locs ls hI (fun N' _ _ _ h => by omega)
    | succ k ih => intro N H locs ls hk hI; exact hs N H locs ls hI (fun N' H' locs' ls' h hI' => ih N' H' locs' ls' (by omega) hI')
  exact main N N H locs ls (Nat.le_refl _) h
/-- paths that come together -/
theorem cd_cutR {g : JFrame} (J : Array Slot → List Value → Prop) (hJ : ∀ ls st, J ls st → W p l e R0 s m args below meth c H locs cells slots Q (F0 m pc ls st)) (k : (∀ ls st, J ls st → W p l e R0 s m args below meth c H locs cells slots Q (F0 m pc ls st)) → W p l e R0 s m args below meth c H locs cells slots Q (g)) : W p l e R0 s m args below meth c H locs cells slots Q (g) := k hJ
theorem cd_retI {v : Int32} (hx : p.tables.exec = Jvm.exec) (hb : c.code = cc) (hr : meth.sig.returnType = some .int) (hlocks : meth.locks = false) (hdg : decode cc pc = .ok (.ireturn, 1)) : W p l e R0 s m args below meth c s.heap [] 0 0 (MQ below (QcRead v) args s 0 0 (fun _ => False)) (F0 m pc ls [.int v]) := W.iret hx hb hr (fun t ht _ => ⟨rfl, ht⟩) (fun q h => by cases h) hdg hlocks
theorem cd_retZ {v : Prop} (hx : p.tables.exec = Jvm.exec) (hb : c.code = cc) (hr : meth.sig.returnType = some .boolean) (hlocks : meth.locks = false) (hdg : decode cc pc = .ok (.ireturn, 1)) : W p l e R0 s m args below meth c s.heap [] 0 0 (MQ below (QcRead (cd_b v)) args s 0 0 (fun _ => False)) (F0 m pc ls [.int (cd_b v)]) := W.zret hx hb hr (cd_nar v) (fun t ht _ => ⟨rfl, ht⟩) (fun q h => by cases h) hdg hlocks
theorem cd_retW {S : Type} {post : Int32 → S → Prop} {w' : S → va_W} {r : Int32} (u : S) (hx : p.tables.exec = Jvm.exec) (hb : c.code = cc) (hr : meth.sig.returnType = some .int) (hlocks : meth.locks = false) (hp : post r u) (hP : va_P D cd_cls (w' u) H) (hD : va_D A (w' u)) (hS : va_S A s.heap H locs) (hdg : decode cc pc = .ok (.ireturn, 1)) : W p l e R0 s m args below meth c H locs 0 0 (MQ below (va_Qi post (fun u t => va_P D cd_cls (w' u) t.heap ∧ va_D A (w' u)) A) args s 0 0 A) (F0 m pc ls [.int r]) := W.iret hx hb hr (fun t ht _ => ⟨⟨r, u, rfl, hp, by rw [ht]; exact hP, hD⟩, hS.F ht⟩) hS.2.2 hdg hlocks
theorem cd_retY {S : Type} {post : Int32 → S → Prop} {w' : S → va_W} {v : Prop} (u : S) (hx : p.tables.exec = Jvm.exec) (hb : c.code = cc) (hr : meth.sig.returnType = some .boolean) (hlocks : meth.locks = false) (hp : post (cd_b v) u) (hP : va_P D cd_cls (w' u) H) (hD : va_D A (w' u)) (hS : va_S A s.heap H locs) (hdg : decode cc pc = .ok (.ireturn, 1)) : W p l e R0 s m args below meth c H locs 0 0 (MQ below (va_Qi post (fun u t => va_P D cd_cls (w' u) t.heap ∧ va_D A (w' u)) A) args s 0 0 A) (F0 m pc ls [.int (cd_b v)]) := W.zret hx hb hr (cd_nar v) (fun t ht _ => ⟨⟨cd_b v, u, rfl, hp, by rw [ht]; exact hP, hD⟩, hS.F ht⟩) hS.2.2 hdg hlocks
theorem cd_retV {S : Type} {post : S → Prop} {w' : S → va_W} (u : S) (hx : p.tables.exec = Jvm.exec) (hb : c.code = cc) (hr : meth.sig.returnType = none) (hlocks : meth.locks = false) (hp : post u) (hP : va_P D cd_cls (w' u) H) (hD : va_D A (w' u)) (hS : va_S A s.heap H locs) (hdg : decode cc pc = .ok (.return_, 1)) : W p l e R0 s m args below meth c H locs 0 0 (MQ below (va_Qv post (fun u t => va_P D cd_cls (w' u) t.heap ∧ va_D A (w' u)) A) args s 0 0 A) (F0 m pc ls []) := W.vret hx hb hr (fun t ht _ => ⟨⟨u, rfl, hp, by rw [ht]; exact hP, hD⟩, hS.F ht⟩) hS.2.2 hdg hlocks
end CdRows
theorem cd_enterRO {l : Launch} {y : MethodName} {cc : ByteArray} {maxL : Nat} {ret : Option FieldType} {rm : Room} {D : va_G} {tys : List (ClassId × FieldType)} {wc : va_W} {av : List Value} {own : String} {v : Int32} (hy : plainName y.cls = true) (ho : y.cls = own) (hlen : (lg_sl av).length ≤ maxL) (body : ∀ (p : Program) (e : Env) (s : State) (m : MethodId) (below : List Frame) (meth : Method) (c : Code) (ls : Array Slot), p.tables.exec = Jvm.exec → c.code = cc → meth.sig.returnType = ret → meth.locks = false → c.maxLocals = maxL → s.vm.findClass own = some m.cls → (∀ w ∈ lw_all, w.before av.toArray s = true) → va_K D cd_cls tys s → va_P D cd_cls wc s.heap → lv_has ls maxL (lv_args 0 av) → W p l e rm s m av.toArray below meth c s.heap [] 0 0 (MQ below (QcRead v) av.toArray s 0 0 (fun _ => False)) (F0 m 0 ls [])) : cd_RO l y (ws_ y cc maxL ret) rm D tys wc av v := by
  refine Met.ofW (cc := cc) (maxL := maxL) (ret := ret) hy rfl ?_
  intro p e s m args below meth c s₁ B hml hv
  obtain ⟨rfl, hP, hK⟩ := hv
  have hts := atoms_spec (ws := ws_ y cc maxL ret) B.pre
  have hts : ∀ w ∈ lw_all, w.before _ s = true := fun w h => hts w (List.mem_cons_of_mem _ h)
  have hown : s.vm.findClass own = some m.cls := by rw [← ho]; exact findClass_of_methodNamed B.named
  rw [lg_entry_eq]
  exact body p e s m below meth c _ B.exec B.bytes B.returns B.notSynchronized hml hown hts hK hP (lv_entry av hlen)
theorem cd_enterRW {l : Launch} {y : MethodName} {cc : ByteArray} {maxL : Nat} {ret : Option FieldType} {rm : Room} {D : va_G} {tys : List (ClassId × FieldType)} {wc : va_W} {av : List Value} {own : String} {S : Type} {post : Int32 → S → Prop} {w' : S → va_W} (hy : plainName y.cls = true) (ho : y.cls = own) (hlen : (lg_sl av).length ≤ maxL) (body : ∀ A : Nat → Prop, ∀ (p : Program) (e : Env) (s : State) (m : MethodId) (below : List Frame) (meth : Method) (c : Code) (ls : Array Slot), p.tables.exec = Jvm.exec → c.code = cc → meth.sig.returnType = ret → meth.locks = false → c.maxLocals = maxL → s.vm.findClass own = some m.cls → (∀ w ∈ lw_all, w.before av.toArray s = true) → va_K D cd_cls tys s → va_P D cd_cls wc s.heap → lv_has ls maxL (lv_args 0 av) → va_D A wc → (∀ q : Nat, s.heap.size ≤ q → A q) → va_S A s.heap s.heap [] → W p l e rm s m av.toArray below meth c s.heap [] 0 0 (MQ below (va_Qi post (fun u t => va_P D cd_cls (w' u) t.heap ∧ va_D A (w' u)) A) av.toArray s 0 0 A) (F0 m 0 ls [])) : cd_RW l y (ws_ y cc maxL ret) rm D tys wc av post w' := by
  intro sz
  refine Met.ofW (cc := cc) (maxL := maxL) (ret := ret) hy rfl ?_
  intro p e s m args below meth c s₁ B hml hv
  obtain ⟨rfl, hsz, hP, hK, hD⟩ := hv
  have hts := atoms_spec (ws := ws_ y cc maxL ret) B.pre
  have hts : ∀ w ∈ lw_all, w.before _ s = true := fun w h => hts w (List.mem_cons_of_mem _ h)
  have hown : s.vm.findClass own = some m.cls := by rw [← ho]; exact findClass_of_methodNamed B.named
  rw [lg_entry_eq]
  subst hsz
  exact body (va_A wc s.heap.size) p e s m below meth c _ B.exec B.bytes B.returns B.notSynchronized hml hown hts hK hP (lv_entry av hlen) hD.self (fun q h => Or.inr h) va_S.rf
theorem cd_enterRV {l : Launch} {y : MethodName} {cc : ByteArray} {maxL : Nat} {ret : Option FieldType} {rm : Room} {D : va_G} {tys : List (ClassId × FieldType)} {wc : va_W} {av : List Value} {own : String} {S : Type} {post : S → Prop} {w' : S → va_W} (hy : plainName y.cls = true) (ho : y.cls = own) (hlen : (lg_sl av).length ≤ maxL) (body : ∀ A : Nat → Prop, ∀ (p : Program) (e : Env) (s : State) (m : MethodId) (below : List Frame) (meth : Method) (c : Code) (ls : Array Slot), p.tables.exec = Jvm.exec → c.code = cc → meth.sig.returnType = ret → meth.locks = false → c.maxLocals = maxL → s.vm.findClass own = some m.cls → (∀ w ∈ lw_all, w.before av.toArray s = true) → va_K D cd_cls tys s → va_P D cd_cls wc s.heap → lv_has ls maxL (lv_args 0 av) → va_D A wc → (∀ q : Nat, s.heap.size ≤ q → A q) → va_S A s.heap s.heap [] → W p l e rm s m av.toArray below meth c s.heap [] 0 0 (MQ below (va_Qv post (fun u t => va_P D cd_cls (w' u) t.heap ∧ va_D A (w' u)) A) av.toArray s 0 0 A) (F0 m 0 ls [])) : cd_RV l y (ws_ y cc maxL ret) rm D tys wc av post w' := by
  intro sz
  refine Met.ofW (cc := cc) (maxL := maxL) (ret := ret) hy rfl ?_
  intro p e s m args below meth c s₁ B hml hv
  obtain ⟨rfl, hsz, hP, hK, hD⟩ := hv
  have hts := atoms_spec (ws := ws_ y cc maxL ret) B.pre
  have hts : ∀ w ∈ lw_all, w.before _ s = true := fun w h => hts w (List.mem_cons_of_mem _ h)
  have hown : s.vm.findClass own = some m.cls := by rw [← ho]; exact findClass_of_methodNamed B.named
  rw [lg_entry_eq]
  subst hsz
  exact body (va_A wc s.heap.size) p e s m below meth c _ B.exec B.bytes B.returns B.notSynchronized hml hown hts hK hP (lv_entry av hlen) hD.self (fun q h => Or.inr h) va_S.rf
end
section
/-! small laws for the walks; what the calls answer -/
theorem cd_alls {P : Nat → Prop} {i : Nat} (h : ∀ j, j < i → P j) (hi : P i) : ∀ j, j < i + 1 → P j := by
  intro j hj
  rcases Nat.lt_or_eq_of_le (Nat.le_of_lt_succ hj) with q | q
  · exact h j q
  · rw [q]; exact hi
theorem cd_alln {P : Nat → Prop} {i : Nat} (hi : ¬ P i) : ¬ ∀ j, j < i + 1 → P j := fun h => hi (h i (Nat.lt_succ_self i))
theorem cd_alld {P : Nat → Prop} {i : Nat} (h : ∀ j, j < i + 1 → P j) : ∀ j, j < i → P j := fun j hj => h j (by omega)
theorem cd_all0 {P : Nat → Prop} : ∀ j, j < 0 → P j := fun j hj => absurd hj (Nat.not_lt_zero j)
theorem cd_alle {P : Nat → Prop} {i : Nat} (hi : P i) : (∀ j, j < i → P j) ↔ ∀ j, j < i + 1 → P j := ⟨fun h => cd_alls h hi, cd_alld⟩
theorem cd_allq {P : Nat → Prop} {i n : Nat} (h1 : i ≤ n) (h2 : n ≤ i) : (∀ j, j < i → P j) ↔ ∀ j, j < n → P j := by rw [Nat.le_antisymm h1 h2]
theorem cd_allf {P : Nat → Prop} {i n : Nat} (h1 : i ≤ n) (h2 : ¬ ∀ j, j < i → P j) : (∀ j, j < i → P j) ↔ ∀ j, j < n → P j := ⟨fun h => absurd h h2, fun h j hj => h j (by omega)⟩
theorem cd_df31 {x y : Nat} (h : x < 2048) : cd_df x y < 2 ^ 31 := Nat.lt_trans (cd_df_lt (n := 11) h) (by decide)
theorem cd_df15 {x y : Nat} (h : x < 2048) : cd_df x y < 32768 := Nat.lt_trans (cd_df_lt (n := 11) h) (by decide)
theorem cd_and31 {x y : Nat} (h : y < 2048) : x &&& y < 2 ^ 31 := Nat.lt_trans (Nat.and_lt_two_pow (n := 11) x h) (by decide)
theorem cd_mo2048 (x : Int32) {n : Nat} (hn : n ≤ 11) : cd_mo x n < 2048 := Nat.lt_of_lt_of_le (cd_mo_lt x n) (cd_p11 hn)
/-- t - 1, as the loops down to -1 have it -/
def cd_pr (t : Nat) : Int32 := nI t + Int32.ofInt (-1)
theorem cd_pr_s (t : Nat) : cd_pr (t + 1) = nI t := pk_m1 t
theorem cd_pr_0 : cd_pr 0 < 0 := by decide
theorem cd_pr_p (n : Nat) : nI (2 ^ n - 1) = cd_pr (2 ^ n) := by
  have h := cd_p1 n
  rw [← cd_pr_s, Nat.sub_add_cancel h]
/-- an answer asked at a place of the list, -1 outside it -/
noncomputable def cd_gv (n : Nat) (x : Int32) (f : Nat → Int32) : Int32 := @ite Int32 (x < 0 ∨ nI n ≤ x) (Classical.propDecidable _) (-1) (f x.toNatClampNeg)
theorem cd_gv_bad {n : Nat} {x : Int32} {f : Nat → Int32} (h : x < 0 ∨ nI n ≤ x) : cd_gv n x f = -1 := if_pos h
theorem cd_gv_in {n j : Nat} {f : Nat → Int32} (hn : n ≤ 11) (h : j < n) : cd_gv n (nI j) f = f j := by
  unfold cd_gv
  rw [if_neg (cd_ixn hn h), nI_clamp (by omega)]
/-- alike: the same saturated sets have them -/
def cd_al (n : Nat) (K L R : Nat → Nat) (x y r : Int32) : Prop := (((x < 0 ∨ nI n ≤ x) ∨ (y < 0 ∨ nI n ≤ y)) ∧ r = -1) ∨ ∃ i j, i < n ∧ j < n ∧ x = nI i ∧ y = nI j ∧ r = cd_b (∀ w, w < 2 ^ n → cd_W n K L R w → (w.testBit i = true ↔ w.testBit j = true))
theorem cd_al_one {n : Nat} {K L R : Nat → Nat} {x y r t : Int32} (hn : n ≤ 11) (h1 : cd_al n K L R x y r) (h2 : cd_al n K L R x y t) : r = t := by
  have bad : ∀ {i j : Nat}, i < n → j < n → ¬ ((nI i < 0 ∨ nI n ≤ nI i) ∨ (nI j < 0 ∨ nI n ≤ nI j)) := fun hi hj h => h.elim (cd_ixn hn hi) (cd_ixn hn hj)
  rcases h1 with ⟨a, e⟩ | ⟨i, j, hi, hj, e1, e2, e⟩
  · rcases h2 with ⟨-, e2⟩ | ⟨i, j, hi, hj, e1, e2, -⟩
    · rw [e, e2]
    · subst e1; subst e2; exact absurd a (bad hi hj)
  · subst e1; subst e2
    rcases h2 with ⟨a, -⟩ | ⟨i2, j2, hi2, hj2, e1, e2, e3⟩
    · exact absurd a (bad hi hj)
    · have q1 := (nI_eq (by omega) (by omega)).mp e1
      have q2 := (nI_eq (by omega) (by omega)).mp e2
      subst q1; subst q2
      rw [e, e3]
/-- put: found there, no place, or put behind -/
def cd_mt (K L R : Nat → Nat) (w x y j : Nat) : Prop := K j = w ∧ L j = x ∧ R j = y
def cd_pu (n : Nat) (K L R : Nat → Nat) (kn : Prop) (w x y : Nat) (r : Int32) (u : Nat × (Nat → Nat) × (Nat → Nat) × (Nat → Nat) × Prop) : Prop :=
  (∃ i, i < n ∧ cd_mt K L R w x y i ∧ (∀ j, j < i → ¬ cd_mt K L R w x y j) ∧ r = nI i ∧ u = (n, K, L, R, kn)) ∨
  ((∀ j, j < n → ¬ cd_mt K L R w x y j) ∧ n = 11 ∧ r = -2 ∧ u = (n, K, L, R, kn)) ∨
  ((∀ j, j < n → ¬ cd_mt K L R w x y j) ∧ n < 11 ∧ r = nI n ∧ u = (n + 1, cd_up K n w, cd_up L n x, cd_up R n y, False))
def cd_at (n : Nat) (K L R : Nat → Nat) (kn : Prop) (x : Int32) (r : Int32) (u : Nat × (Nat → Nat) × (Nat → Nat) × (Nat → Nat) × Prop) : Prop := ((x < 0 ∨ nI 4 ≤ x) ∧ r = -1 ∧ u = (n, K, L, R, kn)) ∨ ∃ k, k < 4 ∧ x = nI k ∧ cd_pu n K L R kn 3 k 0 r u
def cd_jo (n : Nat) (K L R : Nat → Nat) (kn : Prop) (x y z : Int32) (r : Int32) (u : Nat × (Nat → Nat) × (Nat → Nat) × (Nat → Nat) × Prop) : Prop := (((x < 0 ∨ nI 2 < x) ∨ (y < 0 ∨ nI n ≤ y) ∨ (z < 0 ∨ nI n ≤ z)) ∧ r = -1 ∧ u = (n, K, L, R, kn)) ∨ ∃ k i j, k ≤ 2 ∧ x = nI k ∧ i < n ∧ y = nI i ∧ j < n ∧ z = nI j ∧ cd_pu n K L R kn k i j r u
def cd_dr (n : Nat) (K L R : Nat → Nat) (kn : Prop) (r : Int32) (u : Nat × (Nat → Nat) × (Nat → Nat) × (Nat → Nat) × Prop) : Prop := (n = 0 ∧ r = -4 ∧ u = (n, K, L, R, kn)) ∨ (0 < n ∧ r = nI (n - 1) ∧ u = (n - 1, K, L, R, False))
end
section
/-! more small laws for the walks -/
theorem cd_bN (b : Bool) : nI b.toNat = cd_b (b = true) := by
  cases b
  · exact (cd_b0 (by decide)).symm
  · exact (cd_b1 rfl).symm
theorem cd_ixl {x : Int32} {n : Nat} (hn : n < 2 ^ 31) (h1 : ¬ x < 0) (h2 : x < nI n) : ∃ j : Nat, j < n ∧ x = nI j := by
  rcases pk_ix x hn with q | q | q
  · exact absurd q h1
  · exact absurd h2 (Int32.not_lt.mpr q)
  · exact q
theorem cd_ixg {x : Int32} {n : Nat} (hn : n + 1 < 2 ^ 31) (h1 : ¬ x < 0) (h2 : ¬ nI n < x) : ∃ j : Nat, j ≤ n ∧ x = nI j := by
  obtain ⟨j, hj, e⟩ := nI_of h1
  refine ⟨j, ?_, e⟩
  rcases Nat.lt_or_ge n j with q | q
  · exact absurd (by rw [e]; exact nI_lt q hj) h2
  · exact q
theorem cd_WL31 {n : Nat} {K L R : Nat → Nat} {t fd : Nat} {Wl : Nat → Nat} (h : cd_WL n K L R t fd Wl) (hn : n ≤ 11) {w : Nat} (hw : w < fd) : Wl w < 2 ^ 31 := by
  have := (h.1 w hw).2.1
  have := cd_p11 hn
  omega
theorem cd_WL_ct {n : Nat} {K L R : Nat → Nat} {fd : Nat} {Wl : Nat → Nat} (h : cd_WL n K L R 0 fd Wl) : fd = cd_ct (cd_W n K L R) (2 ^ n) := h.2.2.2
theorem cd_WL_fd {n : Nat} {K L R : Nat → Nat} {fd : Nat} {Wl : Nat → Nat} (hn : n ≤ 11) (h : cd_WL n K L R 0 fd Wl) : fd ≤ 2048 := by
  have := cd_WL_len h (Nat.zero_le _)
  have := cd_p11 hn
  omega
theorem cd_cl31 {n : Nat} {K L R : Nat → Nat} (hn : n ≤ 11) (S : Nat) : cd_cl n K L R S < 2 ^ 31 := by
  have := cd_cl_lt (n := n) (K := K) (L := L) (R := R) S
  have := cd_p11 hn
  omega
/-- the last of the list so far that is ok -/
def cd_ls (ok : Nat → Prop) (Wl : Nat → Nat) (w : Nat) (v : Int32) : Prop := (v = -4 ∧ ∀ q, q < w → ¬ ok (Wl q)) ∨ ∃ q, q < w ∧ v = nI (Wl q) ∧ ok (Wl q) ∧ ∀ q', q < q' → q' < w → ¬ ok (Wl q')
theorem cd_ls_0 {ok : Nat → Prop} {Wl : Nat → Nat} : cd_ls ok Wl 0 (-4) := Or.inl ⟨rfl, cd_all0⟩
theorem cd_ls_1 {ok : Nat → Prop} {Wl : Nat → Nat} {w : Nat} (h : ok (Wl w)) : cd_ls ok Wl (w + 1) (nI (Wl w)) := Or.inr ⟨w, by omega, rfl, h, fun q' h1 h2 => by omega⟩
theorem cd_ls_2 {ok : Nat → Prop} {Wl : Nat → Nat} {w : Nat} {v : Int32} (h : cd_ls ok Wl w v) (hn : ¬ ok (Wl w)) : cd_ls ok Wl (w + 1) v := by
  rcases h with ⟨e, h⟩ | ⟨q, hq, e, h1, h2⟩
  · exact Or.inl ⟨e, cd_alls h hn⟩
  · refine Or.inr ⟨q, by omega, e, h1, fun q' a b => ?_⟩
    by_cases z : q' = w
    · rw [z]; exact hn
    · exact h2 q' a (by omega)
theorem cd_ls_ag {n : Nat} {K L R : Nat → Nat} {fd : Nat} {Wl : Nat → Nat} {S c : Nat} {v : Int32} (hW : cd_WL n K L R 0 fd Wl) (h : cd_ls (fun z => cd_sub S z ∧ ¬ z.testBit c = true) Wl fd v) : cd_ag n K L R S c v := by
  rcases h with ⟨e, h⟩ | ⟨q, hq, e, h1, h2⟩
  · left
    refine ⟨(cd_WL_all hW (P := fun w => cd_sub S w → w.testBit c = true)).mp (fun j hj z => ?_), e⟩
    apply Classical.byContradiction
    intro y
    exact h j hj ⟨z, y⟩
  · right
    obtain ⟨-, g1, g2⟩ := hW.1 q hq
    refine ⟨Wl q, e, g1, g2, h1.1, h1.2, fun v hv hWv hs => ?_⟩
    apply Classical.byContradiction
    intro y
    obtain ⟨j, hj, e2⟩ := hW.2.1 v (Nat.zero_le _) (by omega) hWv
    rcases Nat.lt_trichotomy j q with z | z | z
    · have := hW.2.2.1 j q z hq
      omega
    · subst z; omega
    · exact h2 j z hj (by rw [e2]; exact ⟨hs, y⟩)
/-- the parts of S, from the greatest down -/
theorem cd_en_next {n S q b b' : Nat} {G : Nat → Prop} (hq : cd_sub q S) (h2 : ∀ z, cd_sub z S → G z → q < z → b ≤ cd_pc z n) (hb : b' ≤ b) (hqq : G q → b' ≤ cd_pc q n) : ∀ z, cd_sub z S → G z → ((q - 1) &&& S) < z → b' ≤ cd_pc z n := by
  intro z hz hg hl
  rcases Nat.lt_trichotomy q z with e | e | e
  · exact Nat.le_trans hb (h2 z hz hg e)
  · subst e; exact hqq hg
  · have := cd_next q q z S (Nat.le_refl _) hq hz e
    omega
theorem cd_sub_0 (S : Nat) : cd_sub 0 S := fun i hi => by rw [Nat.zero_testBit] at hi; cases hi
theorem cd_en_0 {n : Nat} {K L R : Nat → Nat} {fd : Nat} {Wl : Nat → Nat} {S c hu : Nat} {Hl : Nat → Nat} (hW : cd_WL n K L R 0 fd Wl) (h : cd_GA fd Wl S c hu Hl) (hc : c < n) (h0 : hu = 0) : cd_en n K L R S c (nI 0) := by
  refine Or.inr ⟨0, cd_sub_0 S, (cd_GA_cl hW h hc (cd_sub_0 S)).mp (fun x hx => by omega), by rw [cd_pc_0], fun q' _ _ => by rw [cd_pc_0]; exact Nat.zero_le _⟩
theorem cd_en_b {n : Nat} {K L R : Nat → Nat} {fd : Nat} {Wl : Nat → Nat} {S c hu : Nat} {Hl : Nat → Nat} {b q : Nat} (hW : cd_WL n K L R 0 fd Wl) (h : cd_GA fd Wl S c hu Hl) (hc : c < n) (h0 : ¬ hu = 0) (hq : q = 0)
    (hb1 : ∃ z, cd_sub z S ∧ (cd_cl n K L R z).testBit c = true ∧ b = cd_pc z n) (hb2 : ∀ z, cd_sub z S → (cd_cl n K L R z).testBit c = true → q < z → b ≤ cd_pc z n) : cd_en n K L R S c (nI b) := by
  obtain ⟨z, z1, z2, z3⟩ := hb1
  refine Or.inr ⟨z, z1, z2, by rw [z3], fun q' a1 a2 => ?_⟩
  rw [← z3]
  rcases Nat.eq_zero_or_pos q' with e | e
  · exfalso
    subst e
    have := (cd_GA_cl hW h hc a1).mpr a2 0 (by omega)
    rw [Nat.and_zero] at this
    exact this rfl
  · exact hb2 q' a1 a2 (by omega)
end
section
/-! small laws for the model's walks -/
def cd_fi (n : Nat) (K L R : Nat → Nat) (w x y : Nat) (v : Int32) : Prop := (∃ i, i < n ∧ cd_mt K L R w x y i ∧ (∀ j, j < i → ¬ cd_mt K L R w x y j) ∧ v = nI i) ∨ ((∀ j, j < n → ¬ cd_mt K L R w x y j) ∧ v = -1)
theorem cd_fi_ex (n : Nat) (K L R : Nat → Nat) (w x y : Nat) : ∃ v, cd_fi n K L R w x y v := by
  by_cases h : ∃ i, i < n ∧ cd_mt K L R w x y i
  · obtain ⟨i, hi, hm⟩ := pk_least (fun i => i < n ∧ cd_mt K L R w x y i) h
    exact ⟨nI i, Or.inl ⟨i, hi.1, hi.2, fun j hj z => hm j hj ⟨by omega, z⟩, rfl⟩⟩
  · exact ⟨-1, Or.inr ⟨fun j hj z => h ⟨j, hj, z⟩, rfl⟩⟩
theorem cd_fi_1 {n : Nat} {K L R : Nat → Nat} {w x y i : Nat} {v : Int32} (h : cd_fi n K L R w x y v) (hi : i < n) (hm : cd_mt K L R w x y i) (hno : ∀ j, j < i → ¬ cd_mt K L R w x y j) : nI i = v := by
  rcases h with ⟨k, k1, k2, k3, e⟩ | ⟨k, -⟩
  · rcases Nat.lt_trichotomy i k with z | z | z
    · exact absurd hm (k3 i z)
    · rw [z, e]
    · exact absurd k2 (hno k z)
  · exact absurd hm (k i hi)
theorem cd_fi_0 {n : Nat} {K L R : Nat → Nat} {w x y : Nat} {v : Int32} (h : cd_fi n K L R w x y v) (hno : ∀ j, j < n → ¬ cd_mt K L R w x y j) : (-1 : Int32) = v := by
  rcases h with ⟨k, k1, k2, -, -⟩ | ⟨-, e⟩
  · exact absurd k2 (hno k k1)
  · exact e.symm
theorem cd_fi_p {n : Nat} {K L R : Nat → Nat} {w x y : Nat} {v : Int32} (h : cd_fi n K L R w x y v) (hv : ¬ v < 0) : ∃ i, i < n ∧ cd_mt K L R w x y i ∧ (∀ j, j < i → ¬ cd_mt K L R w x y j) ∧ v = nI i := by
  rcases h with h | ⟨-, e⟩
  · exact h
  · rw [e] at hv; exact absurd (by decide) hv
theorem cd_fi_n {n : Nat} {K L R : Nat → Nat} {w x y : Nat} {v : Int32} (hn : n ≤ 11) (h : cd_fi n K L R w x y v) (hv : v < 0) : ∀ j, j < n → ¬ cd_mt K L R w x y j := by
  rcases h with ⟨k, k1, k2, k3, e⟩ | ⟨h, -⟩
  · rw [e] at hv; exact absurd hv (nI_pos (by omega))
  · exact h
theorem cd_le3 {x : Int32} (h : ¬ x ≤ nI 3) : nI 4 ≤ x := by
  have e3 : (nI 3).toInt = 3 := by decide
  have e4 : (nI 4).toInt = 4 := by decide
  rw [Int32.le_iff_toInt_le, e3] at h
  rw [Int32.le_iff_toInt_le, e4]
  omega
theorem cd_ix3 {x : Int32} (h1 : ¬ x < 0) (h2 : x ≤ nI 3) : ∃ k : Nat, k < 4 ∧ x = nI k := by
  obtain ⟨j, hj, e⟩ := cd_ixg (n := 3) (by decide) h1 (Int32.not_lt.mpr h2)
  exact ⟨j, by omega, e⟩
theorem cd_bo31 {x y : Nat} (hx : x ≤ 10) (hy : y ≤ 10) : 2 ^ x ||| 2 ^ y < 2 ^ 31 := Nat.or_lt_two_pow (Nat.pow_lt_pow_right (by decide) (by omega)) (Nat.pow_lt_pow_right (by decide) (by omega))
theorem cd_pwlt {i n : Nat} (h : i < n) : 2 ^ i < 2 ^ n := Nat.pow_lt_pow_right (by decide) h
theorem cd_m1n {v : Nat} (h : v < 2 ^ 31) : ¬ (-1 : Int32) = nI v := by
  intro e
  have := nI_pos h
  rw [← e] at this
  exact this (by decide)
section CdWork
variable {n : Nat} {K L R F : Nat → Nat} {t v v2 i : Nat}
theorem cd_cl_sub31 (hn : n ≤ 11) (h : cd_sub v (cd_cl n K L R t)) : v < 2 ^ 31 := Nat.lt_of_le_of_lt (cd_sub_le h) (cd_cl31 hn t)
theorem cd_wk_next (hu1 : cd_sub v v2) (hu3 : v2 = v → ∀ j, j < i → cd_sub (cd_more n K L R F t v j) v) : v2 ||| cd_more n K L R F t v2 i = v → ∀ j, j < i + 1 → cd_sub (cd_more n K L R F t v j) v := by
  intro e
  have e1 : cd_sub v2 v := by rw [← e]; exact cd_sub_or _ _
  have e2 : v2 = v := cd_sub_eq e1 hu1
  subst e2
  exact cd_alls (hu3 rfl) (cd_or_eq e)
theorem cd_wk_fx (hn : n ≤ 11) (hi : n ≤ i) (hv : cd_sub v (cd_cl n K L R t)) (hv2 : cd_sub v2 (cd_cl n K L R t)) (hu3 : v2 = v → ∀ j, j < i → cd_sub (cd_more n K L R F t v j) v) : nI v = nI v2 → ∀ j, j < n → cd_sub (cd_more n K L R F t v2 j) v2 := by
  intro e
  have e2 : v = v2 := (nI_eq (cd_cl_sub31 hn hv) (cd_cl_sub31 hn hv2)).mp e
  subst e2
  exact fun j hj => hu3 rfl j (by omega)
theorem cd_wk_fl : (if v2 = v then 0 else 1) = 1 ∨ nI v = nI v2 := by
  by_cases e : v2 = v
  · right; rw [e]
  · left; rw [if_neg e]
theorem cd_wk_dec {N fl : Nat} {b : Int32} (h1 : cd_sub v v2) (h2 : cd_sub v2 (cd_cl n K L R t)) (hfl : fl = 1 ∨ b = nI v) (c : ¬ nI v = b) (hN : N = 2 * (2 ^ n - v) + fl) : 2 * (2 ^ n - v2) + (if v2 = v then 0 else 1) < N := by
  have a1 := cd_sub_le h1
  have a2 := cd_cl_lt (n := n) (K := K) (L := L) (R := R) t
  have a3 := cd_sub_le h2
  rcases hfl with e | e
  · by_cases z : v2 = v
    · rw [if_pos z]; omega
    · rw [if_neg z]; omega
  · exact absurd e.symm c
theorem cd_wk_put (hwf : cd_wf n K L R) (ht : t < 2 ^ n) (hF : ∀ Z, t + 1 ≤ Z → Z < 2 ^ n → F Z = cd_cl n K L R Z) (hv1 : cd_sub t v) (hv2 : cd_sub v (cd_cl n K L R t)) (hfx : ∀ i, i < n → cd_sub (cd_more n K L R F t v i) v) : ∀ Z, t ≤ Z → Z < 2 ^ n → cd_up F t v Z = cd_cl n K L R Z := by
  intro Z h1 h2
  by_cases e : Z = t
  · subst e
    rw [cd_up_s]
    exact cd_fix (F := F) hwf ht (fun T a b => hF T a b) hv1 hv2 hfx
  · rw [cd_up_n _ e]
    exact hF Z (by omega) h2
end CdWork
theorem cd_jd {n : Nat} {K L R : Nat → Nat} {ch i : Nat} {T : Nat → Prop} {P : Prop} (hT : ∀ j, j < i → (T j ↔ (cd_tf K L R ch i).testBit j = true)) (h : P ↔ cd_tg K L R ch (cd_tf K L R ch i) i) : ∀ j, j < i + 1 → (cd_upP T i P j ↔ (cd_tf K L R ch (i + 1)).testBit j = true) := by
  intro j hj
  by_cases e : j = i
  · subst e
    exact (cd_upP_s T j P).trans (h.trans cd_tf_new.symm)
  · exact (cd_upP_n T e).trans ((hT j (by omega)).trans (cd_tf_old (by omega)).symm)
theorem cd_cs {n : Nat} (hn : n ≤ 11) {x : Int32} {u : Nat} (h : ∀ q, q < n → cd_tb x q → u.testBit q = true) : cd_sub (cd_mo x n) u := by
  intro i hi
  obtain ⟨a, b⟩ := (cd_mo_bit x hn).mp hi
  exact h i a b
theorem cd_cs' {n : Nat} (hn : n ≤ 11) {x : Int32} {u : Nat} (h : cd_sub (cd_mo x n) u) : ∀ q, q < n → cd_tb x q → u.testBit q = true := fun q hq hb => h q ((cd_mo_bit x hn).mpr ⟨hq, hb⟩)
/-- the fewest so far, of the parts below q -/
def cd_ev (n : Nat) (G : Nat → Prop) (S q : Nat) (v : Int32) : Prop := (v = -4 ∧ ∀ z, z < q → ¬ (cd_sub z S ∧ G z)) ∨ ∃ z, z < q ∧ cd_sub z S ∧ G z ∧ v = nI (cd_pc z n) ∧ ∀ z', z' < q → cd_sub z' S → G z' → cd_pc z n ≤ cd_pc z' n
section CdEv
variable {n : Nat} {G : Nat → Prop} {S q : Nat} {v : Int32}
theorem cd_ev_0 : cd_ev n G S 0 (-4) := Or.inl ⟨rfl, cd_all0⟩
theorem cd_ev_no (h : cd_ev n G S q v) (hno : ¬ (cd_sub q S ∧ G q)) : cd_ev n G S (q + 1) v := by
  rcases h with ⟨e, h⟩ | ⟨z, z1, z2, z3, e, h⟩
  · exact Or.inl ⟨e, cd_alls h hno⟩
  · refine Or.inr ⟨z, by omega, z2, z3, e, fun z' a b c => ?_⟩
    by_cases w : z' = q
    · subst w; exact absurd ⟨b, c⟩ hno
    · exact h z' (by omega) b c
theorem cd_ev_neg (hn : n ≤ 11) (h : cd_ev n G S q v) (hv : v < 0) : ∀ z, z < q → ¬ (cd_sub z S ∧ G z) := by
  rcases h with ⟨e, h⟩ | ⟨z, z1, z2, z3, e, h⟩
  · exact h
  · have := cd_pc_le z n
    rw [e] at hv; exact absurd hv (nI_pos (by omega))
theorem cd_ev_new (hn : n ≤ 11) (h : cd_ev n G S q v) (hv : v < 0) (h1 : cd_sub q S) (h2 : G q) : cd_ev n G S (q + 1) (nI (cd_pc q n)) := by
  have h3 := cd_ev_neg hn h hv
  refine Or.inr ⟨q, by omega, h1, h2, rfl, fun z' a b c => ?_⟩
  by_cases w : z' = q
  · rw [w]; exact Nat.le_refl _
  · exact absurd ⟨b, c⟩ (h3 z' (by omega))
theorem cd_ev_pos (hv : ¬ v < 0) (h : cd_ev n G S q v) : ∃ z, z < q ∧ cd_sub z S ∧ G z ∧ v = nI (cd_pc z n) ∧ ∀ z', z' < q → cd_sub z' S → G z' → cd_pc z n ≤ cd_pc z' n := by
  rcases h with ⟨e, -⟩ | h
  · rw [e] at hv; exact absurd (by decide) hv
  · exact h
theorem cd_ev_less (hn : n ≤ 11) (h : cd_ev n G S q v) (hv : ¬ v < 0) (hl : ¬ v ≤ nI (cd_pc q n)) (h1 : cd_sub q S) (h2 : G q) : cd_ev n G S (q + 1) (nI (cd_pc q n)) := by
  obtain ⟨z, z1, z2, z3, e, h⟩ := cd_ev_pos hv h
  have a1 := cd_pc_le z n
  have a2 := cd_pc_le q n
  rw [e, nI_leI (by omega) (by omega)] at hl
  refine Or.inr ⟨q, by omega, h1, h2, rfl, fun z' a b c => ?_⟩
  by_cases w : z' = q
  · rw [w]; exact Nat.le_refl _
  · have := h z' (by omega) b c
    omega
theorem cd_ev_keep (hn : n ≤ 11) (h : cd_ev n G S q v) (hv : ¬ v < 0) (hl : v ≤ nI (cd_pc q n)) : cd_ev n G S (q + 1) v := by
  obtain ⟨z, z1, z2, z3, e, h⟩ := cd_ev_pos hv h
  have a1 := cd_pc_le z n
  have a2 := cd_pc_le q n
  have hl2 := hl
  rw [e, nI_leI (by omega) (by omega)] at hl2
  refine Or.inr ⟨z, by omega, z2, z3, e, fun z' a b c => ?_⟩
  by_cases w : z' = q
  · rw [w]; exact hl2
  · exact h z' (by omega) b c
end CdEv
theorem cd_ev_en {n : Nat} {K L R : Nat → Nat} {S c q : Nat} {v : Int32} (h : cd_ev n (fun z => (cd_cl n K L R z).testBit c = true) S q v) (hq : S < q) : cd_en n K L R S c v := by
  rcases h with ⟨e, h⟩ | ⟨z, z1, z2, z3, e, h⟩
  · exact Or.inl ⟨fun g => h S hq ⟨cd_sub_rf S, g⟩, e⟩
  · exact Or.inr ⟨z, z2, z3, e, fun z' a b => h z' (Nat.lt_of_le_of_lt (cd_sub_le a) hq) a b⟩
end
section
set_option maxHeartbeats 4000000 in
set_option maxRecDepth 100000 in
/-- in(set, i): bit i -/
theorem mD_in (l : Launch) (D : va_G) (a : Nat → Nat) (d : Nat → ClassId) (n : Nat) (K : Nat → Nat) (L : Nat → Nat) (R : Nat → Nat) (kn : Prop) (fd : Nat) (Wl : Nat → Nat) (hu : Nat) (Hl : Nat → Nat) (x : Int32) (k : Nat) (hk : k < 32) : cd_RO l yX0_in (ws_ yX0_in cX0_in 3 (some .boolean)) (cd_rm 0) D (cd_tD d) (cd_wD a d n K L R kn fd Wl hu Hl) [.ref (a 0), .int (x), .int (nI k)] (cd_b (cd_tb x k)) := by
  refine cd_enterRO (own := RX0) (by decide) rfl (Nat.le_of_ble_eq_true rfl) ?_
  intro p e s m below meth c ls hx hb hr hlocks hml hown hts hK hP hl
  have hl : lv_has ls 3 [(0, .ref (a 0)), (1, .int (x)), (2, .int (nI k))] := hl
  refine lv_iload_n hx hb dX0_in_0 rfl (lv_at hl 1 rfl) ?_
  refine lv_iload_n hx hb dX0_in_1 rfl (lv_at hl 2 rfl) ?_
  refine lv_ishr hx hb dX0_in_2 ?_
  refine lv_iconst (v := nI 1) hx hb dX0_in_3 (by decide) ?_
  refine lv_iand hx hb dX0_in_4 ?_
  refine cd_v (y := cd_b (cd_tb x k)) (cd_bit1 _ (by omega)) ?_
  refine lv_iconst (v := nI 1) hx hb dX0_in_5 (by decide) ?_
  refine cd_icmpb_ne1 (tgt := 13) hx hb dX0_in_6 (by decide) (fun c6 => ?_) (fun c6 => ?_)
  · refine lv_iconst (v := nI 0) hx hb dX0_in_13 (by decide) ?_
    refine cd_v (y := cd_b (cd_tb x k)) ((cd_b0 c6).symm) ?_
    exact cd_retZ hx hb hr hlocks dX0_in_14
  · refine lv_iconst (v := nI 1) hx hb dX0_in_9 (by decide) ?_
    refine lv_goto (tgt := 14) hx hb dX0_in_10 (by decide) ?_
    refine cd_v (y := cd_b (cd_tb x k)) ((cd_b1 c6).symm) ?_
    exact cd_retZ hx hb hr hlocks dX0_in_14
theorem kD_in {R0 : Room} {s : State} {args : Array Value} (hts : ∀ w ∈ lw_all, w.before args s = true) (h : (cd_rm 0).frames + 1 ≤ R0.frames ∧ 8 + (3 + 11) + (cd_rm 0).locals ≤ R0.locals) : CallW R0 s args RX0 RX0 42 yX0_in cX0_in 3 (some .boolean) (ws_ yX0_in cX0_in 3 (some .boolean)) (cd_rm 0) 0 0 2 := cwV 2 hts (lw_V q113 q115 qs6 q25 q116) rfl rfl rfl (by decide +kernel) h
theorem mD_inN (l : Launch) (D : va_G) (a : Nat → Nat) (d : Nat → ClassId) (n : Nat) (K : Nat → Nat) (L : Nat → Nat) (R : Nat → Nat) (kn : Prop) (fd : Nat) (Wl : Nat → Nat) (hu : Nat) (Hl : Nat → Nat) (t : Nat) (k : Nat) (hk : k < 32) : cd_RO l yX0_in (ws_ yX0_in cX0_in 3 (some .boolean)) (cd_rm 0) D (cd_tD d) (cd_wD a d n K L R kn fd Wl hu Hl) [.ref (a 0), .int (nI t), .int (nI k)] (cd_b (t.testBit k = true)) := by
  rw [← cd_bc (cd_tbN hk)]
  exact mD_in l D a d n K L R kn fd Wl hu Hl (nI t) k hk
set_option maxHeartbeats 4000000 in
set_option maxRecDepth 100000 in
/-- missing(i): outside the list -/
theorem mD_missing (l : Launch) (D : va_G) (a : Nat → Nat) (d : Nat → ClassId) (n : Nat) (K : Nat → Nat) (L : Nat → Nat) (R : Nat → Nat) (kn : Prop) (fd : Nat) (Wl : Nat → Nat) (hu : Nat) (Hl : Nat → Nat) (x : Int32) : cd_RO l yX0_missing (ws_ yX0_missing cX0_missing 2 (some .boolean)) (cd_rm 0) D (cd_tD d) (cd_wD a d n K L R kn fd Wl hu Hl) [.ref (a 0), .int (x)] (cd_b (x < 0 ∨ nI n ≤ x)) := by
  refine cd_enterRO (own := RX0) (by decide) rfl (Nat.le_of_ble_eq_true rfl) ?_
  intro p e s m below meth c ls hx hb hr hlocks hml hown hts hK hP hl
  have hl : lv_has ls 2 [(0, .ref (a 0)), (1, .int (x))] := hl
  refine lv_iload_n hx hb dX0_missing_0 rfl (lv_at hl 1 rfl) ?_
  refine lv_if_lt (tgt := 12) hx hb dX0_missing_1 (by decide) (fun c1 => ?_) (fun c1 => ?_)
  · refine lv_iconst (v := nI 1) hx hb dX0_missing_12 (by decide) ?_
    refine lv_goto (tgt := 17) hx hb dX0_missing_13 (by decide) ?_
    refine cd_v (y := cd_b (x < 0 ∨ nI n ≤ x)) ((cd_b1 (Or.inl c1)).symm) ?_
    exact cd_retZ hx hb hr hlocks dX0_missing_17
  · refine lv_iload_n hx hb dX0_missing_4 rfl (lv_at hl 1 rfl) ?_
    refine lv_aload_n hx hb dX0_missing_5 rfl (lv_at hl 0 rfl) ?_
    refine gD_count hx hb hts hown hK hP dX0_missing_6 ?_
    refine lv_icmp_lt (tgt := 16) hx hb dX0_missing_9 (by decide) (fun c9 => ?_) (fun c9 => ?_)
    · refine lv_iconst (v := nI 0) hx hb dX0_missing_16 (by decide) ?_
      refine cd_v (y := cd_b (x < 0 ∨ nI n ≤ x)) ((cd_b0 (fun h => h.elim c1 (fun z => Int32.not_lt.mpr z c9))).symm) ?_
      exact cd_retZ hx hb hr hlocks dX0_missing_17
    · refine lv_iconst (v := nI 1) hx hb dX0_missing_12 (by decide) ?_
      refine lv_goto (tgt := 17) hx hb dX0_missing_13 (by decide) ?_
      refine cd_v (y := cd_b (x < 0 ∨ nI n ≤ x)) ((cd_b1 (Or.inr (Int32.not_lt.mp c9))).symm) ?_
      exact cd_retZ hx hb hr hlocks dX0_missing_17
theorem kD_missing {R0 : Room} {s : State} {args : Array Value} (hts : ∀ w ∈ lw_all, w.before args s = true) (h : (cd_rm 0).frames + 1 ≤ R0.frames ∧ 8 + (2 + 11) + (cd_rm 0).locals ≤ R0.locals) : CallW R0 s args RX0 RX0 38 yX0_missing cX0_missing 2 (some .boolean) (ws_ yX0_missing cX0_missing 2 (some .boolean)) (cd_rm 0) 0 0 1 := cwV 1 hts (lw_V q81 q83 qs1 q25 q84) rfl rfl rfl (by decide +kernel) h
set_option maxHeartbeats 4000000 in
set_option maxRecDepth 100000 in
/-- every(): all of the list -/
theorem mD_every (l : Launch) (D : va_G) (a : Nat → Nat) (d : Nat → ClassId) (n : Nat) (K : Nat → Nat) (L : Nat → Nat) (R : Nat → Nat) (kn : Prop) (fd : Nat) (Wl : Nat → Nat) (hu : Nat) (Hl : Nat → Nat) (hn : n ≤ 11) : cd_RO l yX0_every (ws_ yX0_every cX0_every 1 (some .int)) (cd_rm 0) D (cd_tD d) (cd_wD a d n K L R kn fd Wl hu Hl) [.ref (a 0)] (nI (2 ^ n - 1)) := by
  refine cd_enterRO (own := RX0) (by decide) rfl (Nat.le_of_ble_eq_true rfl) ?_
  intro p e s m below meth c ls hx hb hr hlocks hml hown hts hK hP hl
  have hl : lv_has ls 1 [(0, .ref (a 0))] := hl
  have hp11 := cd_p11 hn
  have hp1 := cd_p1 n
  refine lv_iconst (v := nI 1) hx hb dX0_every_0 (by decide) ?_
  refine lv_aload_n hx hb dX0_every_1 rfl (lv_at hl 0 rfl) ?_
  refine gD_count hx hb hts hown hK hP dX0_every_2 ?_
  refine lv_ishl hx hb dX0_every_5 ?_
  refine cd_v (y := nI (2 ^ n)) (cd_shl (by omega)) ?_
  refine lv_iconst (v := nI 1) hx hb dX0_every_6 (by decide) ?_
  refine lv_isub hx hb dX0_every_7 ?_
  refine cd_v (y := nI (2 ^ n - 1)) (pk_sub (by omega)) ?_
  exact cd_retI hx hb hr hlocks dX0_every_8
theorem kD_every {R0 : Room} {s : State} {args : Array Value} (hts : ∀ w ∈ lw_all, w.before args s = true) (h : (cd_rm 0).frames + 1 ≤ R0.frames ∧ 8 + (1 + 11) + (cd_rm 0).locals ≤ R0.locals) : CallW R0 s args RX0 RX0 56 yX0_every cX0_every 1 (some .int) (ws_ yX0_every cX0_every 1 (some .int)) (cd_rm 0) 0 0 0 := cwV 0 hts (lw_V q101 q103 qs3 q25 q104) rfl rfl rfl (by decide +kernel) h
set_option maxHeartbeats 4000000 in
set_option maxRecDepth 100000 in
/-- size() -/
theorem mD_size (l : Launch) (D : va_G) (a : Nat → Nat) (d : Nat → ClassId) (n : Nat) (K : Nat → Nat) (L : Nat → Nat) (R : Nat → Nat) (kn : Prop) (fd : Nat) (Wl : Nat → Nat) (hu : Nat) (Hl : Nat → Nat) : cd_RO l yX0_size (ws_ yX0_size cX0_size 1 (some .int)) (cd_rm 0) D (cd_tD d) (cd_wD a d n K L R kn fd Wl hu Hl) [.ref (a 0)] (nI n) := by
  refine cd_enterRO (own := RX0) (by decide) rfl (Nat.le_of_ble_eq_true rfl) ?_
  intro p e s m below meth c ls hx hb hr hlocks hml hown hts hK hP hl
  have hl : lv_has ls 1 [(0, .ref (a 0))] := hl
  refine lv_aload_n hx hb dX0_size_0 rfl (lv_at hl 0 rfl) ?_
  refine gD_count hx hb hts hown hK hP dX0_size_1 ?_
  exact cd_retI hx hb hr hlocks dX0_size_4
end
section
set_option maxHeartbeats 4000000 in
set_option maxRecDepth 100000 in
/-- keeps(set): to its connectives -/
theorem mD_keeps (l : Launch) (D : va_G) (a : Nat → Nat) (d : Nat → ClassId) (n : Nat) (K : Nat → Nat) (L : Nat → Nat) (R : Nat → Nat) (kn : Prop) (fd : Nat) (Wl : Nat → Nat) (hu : Nat) (Hl : Nat → Nat) (t : Nat) (hwf : cd_wf n K L R) : cd_RO l yX0_keeps (ws_ yX0_keeps cX0_keeps 7 (some .boolean)) (cd_rm 1) D (cd_tD d) (cd_wD a d n K L R kn fd Wl hu Hl) [.ref (a 0), .int (nI t)] (cd_b (∀ j, j < n → cd_kp K L R t j)) := by
  refine cd_enterRO (own := RX0) (by decide) rfl (Nat.le_of_ble_eq_true rfl) ?_
  intro p e s m below meth c ls hx hb hr hlocks hml hown hts hK hP hl
  have hl : lv_has ls 7 [(0, .ref (a 0)), (1, .int (nI t))] := hl
  have hn := hwf.1
  have hp11 := cd_p11 hn
  have hp1 := cd_p1 n
  refine lv_iconst (v := nI 1) hx hb dX0_keeps_0 (by decide) ?_
  refine cd_v (y := cd_b (∀ j, j < 0 → cd_kp K L R t j)) ((cd_b1 cd_all0).symm) ?_
  refine lv_istore_n (lv' := [(2, .int (cd_b (∀ j, j < 0 → cd_kp K L R t j))), (0, .ref (a 0)), (1, .int (nI t))]) hx hb dX0_keeps_1 rfl hl (by decide) rfl (fun ls hl => ?_)
  refine lv_iconst (v := nI 0) hx hb dX0_keeps_2 (by decide) ?_
  refine lv_istore_n (lv' := [(3, .int (nI 0)), (2, .int (cd_b (∀ j, j < 0 → cd_kp K L R t j))), (0, .ref (a 0)), (1, .int (nI t))]) hx hb dX0_keeps_3 rfl hl (by decide) rfl (fun ls hl => ?_)
  refine cd_loopR (fun N_ ls_ => ∃ (i : Nat), N_ = n - i ∧ i ≤ n ∧ (lv_has ls_ 7 [(0, .ref (a 0)), (1, .int (nI t)), (2, .int (cd_b (∀ j, j < i → cd_kp K L R t j))), (3, .int (nI i))])) ?_ _ ⟨0, rfl, (by omega), lv_sub hl [2, 3, 1, 0] rfl⟩
  intro N4 ls hI4 ih4
  obtain ⟨i, hN4, hi, hl⟩ := hI4
  refine lv_iload_n hx hb dX0_keeps_4 rfl (lv_at hl 3 rfl) ?_
  refine lv_aload_n hx hb dX0_keeps_5 rfl (lv_at hl 0 rfl) ?_
  refine gD_count hx hb hts hown hK hP dX0_keeps_6 ?_
  refine cd_icmp_ge (tgt := 201) (by omega) (by omega) hx hb dX0_keeps_9 (by decide) (fun c9 => ?_) (fun c9 => ?_)
  · refine lv_iload_n hx hb dX0_keeps_201 rfl (lv_at hl 2 rfl) ?_
    refine cd_v (y := cd_b (∀ j, j < n → cd_kp K L R t j)) (cd_bc (cd_allq (P := fun j => cd_kp K L R t j) hi c9)) ?_
    exact cd_retZ hx hb hr hlocks dX0_keeps_202
  · obtain ⟨w1, w2, w3, w4⟩ := hwf.2 i c9
    refine lv_iload_n hx hb dX0_keeps_12 rfl (lv_at hl 2 rfl) ?_
    refine cd_ifb_eq (tgt := 201) hx hb dX0_keeps_13 (by decide) (fun c13 => ?_) (fun c13 => ?_)
    · refine lv_iload_n hx hb dX0_keeps_201 rfl (lv_at hl 2 rfl) ?_
      refine cd_v (y := cd_b (∀ j, j < n → cd_kp K L R t j)) (cd_bc (cd_allf (P := fun j => cd_kp K L R t j) hi c13)) ?_
      exact cd_retZ hx hb hr hlocks dX0_keeps_202
    · refine lv_aload_n hx hb dX0_keeps_16 rfl (lv_at hl 0 rfl) ?_
      refine lv_iload_n hx hb dX0_keeps_17 rfl (lv_at hl 1 rfl) ?_
      refine lv_iload_n hx hb dX0_keeps_18 rfl (lv_at hl 3 rfl) ?_
      refine cd_callRO ⟨hx, hb, hml, hown, hts⟩ (mD_inN l D a d n K L R kn fd Wl hu Hl t i (by omega)) (kD_in hts ⟨Nat.le_of_ble_eq_true rfl, Nat.le_of_ble_eq_true rfl⟩) rfl rfl rfl hP hK rfl hl.1 rfl (Nat.le_of_ble_eq_true rfl) dX0_keeps_19 ⟨Nat.zero_le _, Nat.zero_le _⟩ ?_
      refine lv_istore (lv' := [(4, .int (cd_b (t.testBit i = true))), (0, .ref (a 0)), (1, .int (nI t)), (2, .int (cd_b (∀ j, j < i → cd_kp K L R t j))), (3, .int (nI i))]) hx hb dX0_keeps_22 hl (by decide) rfl (fun ls hl => ?_)
      refine lv_aload_n hx hb dX0_keeps_24 rfl (lv_at hl 1 rfl) ?_
      refine lv_iload_n hx hb dX0_keeps_25 rfl (lv_at hl 2 rfl) ?_
      refine lv_aload_n hx hb dX0_keeps_26 rfl (lv_at hl 1 rfl) ?_
      refine gD_left hx hb hts hown hK hP dX0_keeps_27 ?_
      refine lv_iload_n hx hb dX0_keeps_30 rfl (lv_at hl 4 rfl) ?_
      refine lD_left hx hb hK hP (by omega) dX0_keeps_31 ?_
      refine cd_callRO ⟨hx, hb, hml, hown, hts⟩ (mD_inN l D a d n K L R kn fd Wl hu Hl t (L i) (by omega)) (kD_in hts ⟨Nat.le_of_ble_eq_true rfl, Nat.le_of_ble_eq_true rfl⟩) rfl rfl rfl hP hK rfl hl.1 rfl (Nat.le_of_ble_eq_true rfl) dX0_keeps_32 ⟨Nat.zero_le _, Nat.zero_le _⟩ ?_
      refine lv_istore (lv' := [(5, .int (cd_b (t.testBit (L i) = true))), (4, .int (cd_b (t.testBit i = true))), (0, .ref (a 0)), (1, .int (nI t)), (2, .int (cd_b (∀ j, j < i → cd_kp K L R t j))), (3, .int (nI i))]) hx hb dX0_keeps_35 hl (by decide) rfl (fun ls hl => ?_)
      refine lv_aload_n hx hb dX0_keeps_37 rfl (lv_at hl 2 rfl) ?_
      refine lv_iload_n hx hb dX0_keeps_38 rfl (lv_at hl 3 rfl) ?_
      refine lv_aload_n hx hb dX0_keeps_39 rfl (lv_at hl 2 rfl) ?_
      refine gD_right hx hb hts hown hK hP dX0_keeps_40 ?_
      refine lv_iload_n hx hb dX0_keeps_43 rfl (lv_at hl 5 rfl) ?_
      refine lD_right hx hb hK hP (by omega) dX0_keeps_44 ?_
      refine cd_callRO ⟨hx, hb, hml, hown, hts⟩ (mD_inN l D a d n K L R kn fd Wl hu Hl t (R i) (by omega)) (kD_in hts ⟨Nat.le_of_ble_eq_true rfl, Nat.le_of_ble_eq_true rfl⟩) rfl rfl rfl hP hK rfl hl.1 rfl (Nat.le_of_ble_eq_true rfl) dX0_keeps_45 ⟨Nat.zero_le _, Nat.zero_le _⟩ ?_
      refine lv_istore (lv' := [(6, .int (cd_b (t.testBit (R i) = true))), (5, .int (cd_b (t.testBit (L i) = true))), (4, .int (cd_b (t.testBit i = true))), (0, .ref (a 0)), (1, .int (nI t)), (2, .int (cd_b (∀ j, j < i → cd_kp K L R t j))), (3, .int (nI i))]) hx hb dX0_keeps_48 hl (by decide) rfl (fun ls hl => ?_)
      refine lv_aload_n hx hb dX0_keeps_50 rfl (lv_at hl 3 rfl) ?_
      refine gD_kind hx hb hts hown hK hP dX0_keeps_51 ?_
      refine lv_iload_n hx hb dX0_keeps_54 rfl (lv_at hl 6 rfl) ?_
      refine lD_kind hx hb hK hP (by omega) dX0_keeps_55 ?_
      refine cd_if_ne (tgt := 88) (by omega) hx hb dX0_keeps_56 (by decide) (fun c56 => ?_) (fun c56 => ?_)
      · refine lv_aload_n hx hb dX0_keeps_88 rfl (lv_at hl 3 rfl) ?_
        refine gD_kind hx hb hts hown hK hP dX0_keeps_89 ?_
        refine lv_iload_n hx hb dX0_keeps_92 rfl (lv_at hl 6 rfl) ?_
        refine lD_kind hx hb hK hP (by omega) dX0_keeps_93 ?_
        refine lv_iconst (v := nI 1) hx hb dX0_keeps_94 (by decide) ?_
        refine cd_icmp_ne (tgt := 127) (by omega) (by omega) hx hb dX0_keeps_95 (by decide) (fun c95 => ?_) (fun c95 => ?_)
        · refine lv_aload_n hx hb dX0_keeps_127 rfl (lv_at hl 3 rfl) ?_
          refine gD_kind hx hb hts hown hK hP dX0_keeps_128 ?_
          refine lv_iload_n hx hb dX0_keeps_131 rfl (lv_at hl 6 rfl) ?_
          refine lD_kind hx hb hK hP (by omega) dX0_keeps_132 ?_
          refine lv_iconst (v := nI 2) hx hb dX0_keeps_133 (by decide) ?_
          refine cd_icmp_ne (tgt := 174) (by omega) (by omega) hx hb dX0_keeps_134 (by decide) (fun c134 => ?_) (fun c134 => ?_)
          · refine lv_aload_n hx hb dX0_keeps_174 rfl (lv_at hl 3 rfl) ?_
            refine gD_kind hx hb hts hown hK hP dX0_keeps_175 ?_
            refine lv_iload_n hx hb dX0_keeps_178 rfl (lv_at hl 6 rfl) ?_
            refine lD_kind hx hb hK hP (by omega) dX0_keeps_179 ?_
            refine lv_iconst (v := nI 4) hx hb dX0_keeps_180 (by decide) ?_
            refine cd_icmp_ne (tgt := 195) (by omega) (by omega) hx hb dX0_keeps_181 (by decide) (fun c181 => ?_) (fun c181 => ?_)
            · rw [cd_bc (cd_alle (P := fun j => cd_kp K L R t j) (i := i) (by simp [cd_kp, c9, c13, c56, c95, c134, c181]))] at hl
              refine lv_iinc (v := nI (i + 1)) (lv' := [(3, .int (nI (i + 1))), (6, .int (cd_b (t.testBit (R i) = true))), (5, .int (cd_b (t.testBit (L i) = true))), (4, .int (cd_b (t.testBit i = true))), (0, .ref (a 0)), (1, .int (nI t)), (2, .int (cd_b (∀ j, j < i + 1 → cd_kp K L R t j)))]) hx hb dX0_keeps_195 hl (k := 6) rfl (cd_inc _) (by decide) rfl (fun ls hl => ?_)
              refine lv_goto (tgt := 4) hx hb dX0_keeps_198 (by decide) ?_
              exact ih4 _ _ (by omega) ⟨i + 1, rfl, (by omega), lv_sub hl [4, 5, 6, 0] rfl⟩
            · refine lv_iload hx hb dX0_keeps_184 (lv_at hl 2 rfl) ?_
              refine cd_ifb_ne (tgt := 193) hx hb dX0_keeps_186 (by decide) (fun c186 => ?_) (fun c186 => ?_)
              · refine lv_iconst (v := nI 0) hx hb dX0_keeps_193 (by decide) ?_
                refine cd_v (y := cd_b (∀ j, j < i + 1 → cd_kp K L R t j)) ((cd_b0 (cd_alln (by simp [cd_kp, c9, c13, c56, c95, c134, c181, c186]))).symm) ?_
                refine lv_istore_n (lv' := [(2, .int (cd_b (∀ j, j < i + 1 → cd_kp K L R t j))), (6, .int (cd_b (t.testBit (R i) = true))), (5, .int (cd_b (t.testBit (L i) = true))), (4, .int (cd_b (t.testBit i = true))), (0, .ref (a 0)), (1, .int (nI t)), (3, .int (nI i))]) hx hb dX0_keeps_194 rfl hl (by decide) rfl (fun ls hl => ?_)
                refine lv_iinc (v := nI (i + 1)) (lv' := [(3, .int (nI (i + 1))), (2, .int (cd_b (∀ j, j < i + 1 → cd_kp K L R t j))), (6, .int (cd_b (t.testBit (R i) = true))), (5, .int (cd_b (t.testBit (L i) = true))), (4, .int (cd_b (t.testBit i = true))), (0, .ref (a 0)), (1, .int (nI t))]) hx hb dX0_keeps_195 hl (k := 6) rfl (cd_inc _) (by decide) rfl (fun ls hl => ?_)
                refine lv_goto (tgt := 4) hx hb dX0_keeps_198 (by decide) ?_
                exact ih4 _ _ (by omega) ⟨i + 1, rfl, (by omega), lv_sub hl [5, 6, 1, 0] rfl⟩
              · refine lv_iconst (v := nI 1) hx hb dX0_keeps_189 (by decide) ?_
                refine lv_goto (tgt := 194) hx hb dX0_keeps_190 (by decide) ?_
                refine cd_v (y := cd_b (∀ j, j < i + 1 → cd_kp K L R t j)) ((cd_b1 (cd_alls c13 (by simp [cd_kp, c9, c13, c56, c95, c134, c181, c186]))).symm) ?_
                refine lv_istore_n (lv' := [(2, .int (cd_b (∀ j, j < i + 1 → cd_kp K L R t j))), (6, .int (cd_b (t.testBit (R i) = true))), (5, .int (cd_b (t.testBit (L i) = true))), (4, .int (cd_b (t.testBit i = true))), (0, .ref (a 0)), (1, .int (nI t)), (3, .int (nI i))]) hx hb dX0_keeps_194 rfl hl (by decide) rfl (fun ls hl => ?_)
                refine lv_iinc (v := nI (i + 1)) (lv' := [(3, .int (nI (i + 1))), (2, .int (cd_b (∀ j, j < i + 1 → cd_kp K L R t j))), (6, .int (cd_b (t.testBit (R i) = true))), (5, .int (cd_b (t.testBit (L i) = true))), (4, .int (cd_b (t.testBit i = true))), (0, .ref (a 0)), (1, .int (nI t))]) hx hb dX0_keeps_195 hl (k := 6) rfl (cd_inc _) (by decide) rfl (fun ls hl => ?_)
                refine lv_goto (tgt := 4) hx hb dX0_keeps_198 (by decide) ?_
                exact ih4 _ _ (by omega) ⟨i + 1, rfl, (by omega), lv_sub hl [5, 6, 1, 0] rfl⟩
          · refine lv_iload hx hb dX0_keeps_137 (lv_at hl 2 rfl) ?_
            refine cd_ifb_eq (tgt := 160) hx hb dX0_keeps_139 (by decide) (fun c139 => ?_) (fun c139 => ?_)
            · refine lv_iload hx hb dX0_keeps_160 (lv_at hl 0 rfl) ?_
              refine cd_ifb_ne (tgt := 169) hx hb dX0_keeps_162 (by decide) (fun c162 => ?_) (fun c162 => ?_)
              · refine lv_iconst (v := nI 0) hx hb dX0_keeps_169 (by decide) ?_
                refine cd_v (y := cd_b (∀ j, j < i + 1 → cd_kp K L R t j)) ((cd_b0 (cd_alln (by simp [cd_kp, c9, c13, c56, c95, c134, c139, c162]))).symm) ?_
                refine lv_istore_n (lv' := [(2, .int (cd_b (∀ j, j < i + 1 → cd_kp K L R t j))), (6, .int (cd_b (t.testBit (R i) = true))), (5, .int (cd_b (t.testBit (L i) = true))), (4, .int (cd_b (t.testBit i = true))), (0, .ref (a 0)), (1, .int (nI t)), (3, .int (nI i))]) hx hb dX0_keeps_170 rfl hl (by decide) rfl (fun ls hl => ?_)
                refine lv_goto (tgt := 195) hx hb dX0_keeps_171 (by decide) ?_
                refine lv_iinc (v := nI (i + 1)) (lv' := [(3, .int (nI (i + 1))), (2, .int (cd_b (∀ j, j < i + 1 → cd_kp K L R t j))), (6, .int (cd_b (t.testBit (R i) = true))), (5, .int (cd_b (t.testBit (L i) = true))), (4, .int (cd_b (t.testBit i = true))), (0, .ref (a 0)), (1, .int (nI t))]) hx hb dX0_keeps_195 hl (k := 6) rfl (cd_inc _) (by decide) rfl (fun ls hl => ?_)
                refine lv_goto (tgt := 4) hx hb dX0_keeps_198 (by decide) ?_
                exact ih4 _ _ (by omega) ⟨i + 1, rfl, (by omega), lv_sub hl [5, 6, 1, 0] rfl⟩
              · refine lv_iconst (v := nI 1) hx hb dX0_keeps_165 (by decide) ?_
                refine lv_goto (tgt := 170) hx hb dX0_keeps_166 (by decide) ?_
                refine cd_v (y := cd_b (∀ j, j < i + 1 → cd_kp K L R t j)) ((cd_b1 (cd_alls c13 (by simp [cd_kp, c9, c13, c56, c95, c134, c139, c162]))).symm) ?_
                refine lv_istore_n (lv' := [(2, .int (cd_b (∀ j, j < i + 1 → cd_kp K L R t j))), (6, .int (cd_b (t.testBit (R i) = true))), (5, .int (cd_b (t.testBit (L i) = true))), (4, .int (cd_b (t.testBit i = true))), (0, .ref (a 0)), (1, .int (nI t)), (3, .int (nI i))]) hx hb dX0_keeps_170 rfl hl (by decide) rfl (fun ls hl => ?_)
                refine lv_goto (tgt := 195) hx hb dX0_keeps_171 (by decide) ?_
                refine lv_iinc (v := nI (i + 1)) (lv' := [(3, .int (nI (i + 1))), (2, .int (cd_b (∀ j, j < i + 1 → cd_kp K L R t j))), (6, .int (cd_b (t.testBit (R i) = true))), (5, .int (cd_b (t.testBit (L i) = true))), (4, .int (cd_b (t.testBit i = true))), (0, .ref (a 0)), (1, .int (nI t))]) hx hb dX0_keeps_195 hl (k := 6) rfl (cd_inc _) (by decide) rfl (fun ls hl => ?_)
                refine lv_goto (tgt := 4) hx hb dX0_keeps_198 (by decide) ?_
                exact ih4 _ _ (by omega) ⟨i + 1, rfl, (by omega), lv_sub hl [5, 6, 1, 0] rfl⟩
            · refine lv_iload hx hb dX0_keeps_142 (lv_at hl 1 rfl) ?_
              refine cd_ifb_eq (tgt := 152) hx hb dX0_keeps_144 (by decide) (fun c144 => ?_) (fun c144 => ?_)
              · refine lv_iconst (v := nI 1) hx hb dX0_keeps_152 (by decide) ?_
                refine lv_goto (tgt := 170) hx hb dX0_keeps_153 (by decide) ?_
                refine cd_v (y := cd_b (∀ j, j < i + 1 → cd_kp K L R t j)) ((cd_b1 (cd_alls c13 (by simp [cd_kp, c9, c13, c56, c95, c134, c139, c144]))).symm) ?_
                refine lv_istore_n (lv' := [(2, .int (cd_b (∀ j, j < i + 1 → cd_kp K L R t j))), (6, .int (cd_b (t.testBit (R i) = true))), (5, .int (cd_b (t.testBit (L i) = true))), (4, .int (cd_b (t.testBit i = true))), (0, .ref (a 0)), (1, .int (nI t)), (3, .int (nI i))]) hx hb dX0_keeps_170 rfl hl (by decide) rfl (fun ls hl => ?_)
                refine lv_goto (tgt := 195) hx hb dX0_keeps_171 (by decide) ?_
                refine lv_iinc (v := nI (i + 1)) (lv' := [(3, .int (nI (i + 1))), (2, .int (cd_b (∀ j, j < i + 1 → cd_kp K L R t j))), (6, .int (cd_b (t.testBit (R i) = true))), (5, .int (cd_b (t.testBit (L i) = true))), (4, .int (cd_b (t.testBit i = true))), (0, .ref (a 0)), (1, .int (nI t))]) hx hb dX0_keeps_195 hl (k := 6) rfl (cd_inc _) (by decide) rfl (fun ls hl => ?_)
                refine lv_goto (tgt := 4) hx hb dX0_keeps_198 (by decide) ?_
                exact ih4 _ _ (by omega) ⟨i + 1, rfl, (by omega), lv_sub hl [5, 6, 1, 0] rfl⟩
              · refine lv_iload hx hb dX0_keeps_147 (lv_at hl 0 rfl) ?_
                refine cd_ifb_eq (tgt := 156) hx hb dX0_keeps_149 (by decide) (fun c149 => ?_) (fun c149 => ?_)
                · refine lv_iconst (v := nI 0) hx hb dX0_keeps_156 (by decide) ?_
                  refine lv_goto (tgt := 170) hx hb dX0_keeps_157 (by decide) ?_
                  refine cd_v (y := cd_b (∀ j, j < i + 1 → cd_kp K L R t j)) ((cd_b0 (cd_alln (by simp [cd_kp, c9, c13, c56, c95, c134, c139, c144, c149]))).symm) ?_
                  refine lv_istore_n (lv' := [(2, .int (cd_b (∀ j, j < i + 1 → cd_kp K L R t j))), (6, .int (cd_b (t.testBit (R i) = true))), (5, .int (cd_b (t.testBit (L i) = true))), (4, .int (cd_b (t.testBit i = true))), (0, .ref (a 0)), (1, .int (nI t)), (3, .int (nI i))]) hx hb dX0_keeps_170 rfl hl (by decide) rfl (fun ls hl => ?_)
                  refine lv_goto (tgt := 195) hx hb dX0_keeps_171 (by decide) ?_
                  refine lv_iinc (v := nI (i + 1)) (lv' := [(3, .int (nI (i + 1))), (2, .int (cd_b (∀ j, j < i + 1 → cd_kp K L R t j))), (6, .int (cd_b (t.testBit (R i) = true))), (5, .int (cd_b (t.testBit (L i) = true))), (4, .int (cd_b (t.testBit i = true))), (0, .ref (a 0)), (1, .int (nI t))]) hx hb dX0_keeps_195 hl (k := 6) rfl (cd_inc _) (by decide) rfl (fun ls hl => ?_)
                  refine lv_goto (tgt := 4) hx hb dX0_keeps_198 (by decide) ?_
                  exact ih4 _ _ (by omega) ⟨i + 1, rfl, (by omega), lv_sub hl [5, 6, 1, 0] rfl⟩
                · refine lv_iconst (v := nI 1) hx hb dX0_keeps_152 (by decide) ?_
                  refine lv_goto (tgt := 170) hx hb dX0_keeps_153 (by decide) ?_
                  refine cd_v (y := cd_b (∀ j, j < i + 1 → cd_kp K L R t j)) ((cd_b1 (cd_alls c13 (by simp [cd_kp, c9, c13, c56, c95, c134, c139, c144, c149]))).symm) ?_
                  refine lv_istore_n (lv' := [(2, .int (cd_b (∀ j, j < i + 1 → cd_kp K L R t j))), (6, .int (cd_b (t.testBit (R i) = true))), (5, .int (cd_b (t.testBit (L i) = true))), (4, .int (cd_b (t.testBit i = true))), (0, .ref (a 0)), (1, .int (nI t)), (3, .int (nI i))]) hx hb dX0_keeps_170 rfl hl (by decide) rfl (fun ls hl => ?_)
                  refine lv_goto (tgt := 195) hx hb dX0_keeps_171 (by decide) ?_
                  refine lv_iinc (v := nI (i + 1)) (lv' := [(3, .int (nI (i + 1))), (2, .int (cd_b (∀ j, j < i + 1 → cd_kp K L R t j))), (6, .int (cd_b (t.testBit (R i) = true))), (5, .int (cd_b (t.testBit (L i) = true))), (4, .int (cd_b (t.testBit i = true))), (0, .ref (a 0)), (1, .int (nI t))]) hx hb dX0_keeps_195 hl (k := 6) rfl (cd_inc _) (by decide) rfl (fun ls hl => ?_)
                  refine lv_goto (tgt := 4) hx hb dX0_keeps_198 (by decide) ?_
                  exact ih4 _ _ (by omega) ⟨i + 1, rfl, (by omega), lv_sub hl [5, 6, 1, 0] rfl⟩
        · refine lv_iload hx hb dX0_keeps_98 (lv_at hl 2 rfl) ?_
          refine lv_iload hx hb dX0_keeps_100 (lv_at hl 1 rfl) ?_
          refine cd_ifb_ne (tgt := 110) hx hb dX0_keeps_102 (by decide) (fun c102 => ?_) (fun c102 => ?_)
          · refine lv_iconst (v := nI 1) hx hb dX0_keeps_110 (by decide) ?_
            refine lv_goto (tgt := 115) hx hb dX0_keeps_111 (by decide) ?_
            refine cd_icmpb_ne1 (tgt := 122) hx hb dX0_keeps_115 (by decide) (fun c115 => ?_) (fun c115 => ?_)
            · refine lv_iconst (v := nI 0) hx hb dX0_keeps_122 (by decide) ?_
              refine cd_v (y := cd_b (∀ j, j < i + 1 → cd_kp K L R t j)) ((cd_b0 (cd_alln (by simp [cd_kp, c9, c13, c56, c95, c102, c115]))).symm) ?_
              refine lv_istore_n (lv' := [(2, .int (cd_b (∀ j, j < i + 1 → cd_kp K L R t j))), (6, .int (cd_b (t.testBit (R i) = true))), (5, .int (cd_b (t.testBit (L i) = true))), (4, .int (cd_b (t.testBit i = true))), (0, .ref (a 0)), (1, .int (nI t)), (3, .int (nI i))]) hx hb dX0_keeps_123 rfl hl (by decide) rfl (fun ls hl => ?_)
              refine lv_goto (tgt := 195) hx hb dX0_keeps_124 (by decide) ?_
              refine lv_iinc (v := nI (i + 1)) (lv' := [(3, .int (nI (i + 1))), (2, .int (cd_b (∀ j, j < i + 1 → cd_kp K L R t j))), (6, .int (cd_b (t.testBit (R i) = true))), (5, .int (cd_b (t.testBit (L i) = true))), (4, .int (cd_b (t.testBit i = true))), (0, .ref (a 0)), (1, .int (nI t))]) hx hb dX0_keeps_195 hl (k := 6) rfl (cd_inc _) (by decide) rfl (fun ls hl => ?_)
              refine lv_goto (tgt := 4) hx hb dX0_keeps_198 (by decide) ?_
              exact ih4 _ _ (by omega) ⟨i + 1, rfl, (by omega), lv_sub hl [5, 6, 1, 0] rfl⟩
            · refine lv_iconst (v := nI 1) hx hb dX0_keeps_118 (by decide) ?_
              refine lv_goto (tgt := 123) hx hb dX0_keeps_119 (by decide) ?_
              refine cd_v (y := cd_b (∀ j, j < i + 1 → cd_kp K L R t j)) ((cd_b1 (cd_alls c13 (by simp [cd_kp, c9, c13, c56, c95, c102, c115]))).symm) ?_
              refine lv_istore_n (lv' := [(2, .int (cd_b (∀ j, j < i + 1 → cd_kp K L R t j))), (6, .int (cd_b (t.testBit (R i) = true))), (5, .int (cd_b (t.testBit (L i) = true))), (4, .int (cd_b (t.testBit i = true))), (0, .ref (a 0)), (1, .int (nI t)), (3, .int (nI i))]) hx hb dX0_keeps_123 rfl hl (by decide) rfl (fun ls hl => ?_)
              refine lv_goto (tgt := 195) hx hb dX0_keeps_124 (by decide) ?_
              refine lv_iinc (v := nI (i + 1)) (lv' := [(3, .int (nI (i + 1))), (2, .int (cd_b (∀ j, j < i + 1 → cd_kp K L R t j))), (6, .int (cd_b (t.testBit (R i) = true))), (5, .int (cd_b (t.testBit (L i) = true))), (4, .int (cd_b (t.testBit i = true))), (0, .ref (a 0)), (1, .int (nI t))]) hx hb dX0_keeps_195 hl (k := 6) rfl (cd_inc _) (by decide) rfl (fun ls hl => ?_)
              refine lv_goto (tgt := 4) hx hb dX0_keeps_198 (by decide) ?_
              exact ih4 _ _ (by omega) ⟨i + 1, rfl, (by omega), lv_sub hl [5, 6, 1, 0] rfl⟩
          · refine lv_iload hx hb dX0_keeps_105 (lv_at hl 0 rfl) ?_
            refine cd_ifb_eq (tgt := 114) hx hb dX0_keeps_107 (by decide) (fun c107 => ?_) (fun c107 => ?_)
            · refine lv_iconst (v := nI 0) hx hb dX0_keeps_114 (by decide) ?_
              refine cd_icmpb_ne0 (tgt := 122) hx hb dX0_keeps_115 (by decide) (fun c115 => ?_) (fun c115 => ?_)
              · refine lv_iconst (v := nI 0) hx hb dX0_keeps_122 (by decide) ?_
                refine cd_v (y := cd_b (∀ j, j < i + 1 → cd_kp K L R t j)) ((cd_b0 (cd_alln (by simp [cd_kp, c9, c13, c56, c95, c102, c107, c115]))).symm) ?_
                refine lv_istore_n (lv' := [(2, .int (cd_b (∀ j, j < i + 1 → cd_kp K L R t j))), (6, .int (cd_b (t.testBit (R i) = true))), (5, .int (cd_b (t.testBit (L i) = true))), (4, .int (cd_b (t.testBit i = true))), (0, .ref (a 0)), (1, .int (nI t)), (3, .int (nI i))]) hx hb dX0_keeps_123 rfl hl (by decide) rfl (fun ls hl => ?_)
                refine lv_goto (tgt := 195) hx hb dX0_keeps_124 (by decide) ?_
                refine lv_iinc (v := nI (i + 1)) (lv' := [(3, .int (nI (i + 1))), (2, .int (cd_b (∀ j, j < i + 1 → cd_kp K L R t j))), (6, .int (cd_b (t.testBit (R i) = true))), (5, .int (cd_b (t.testBit (L i) = true))), (4, .int (cd_b (t.testBit i = true))), (0, .ref (a 0)), (1, .int (nI t))]) hx hb dX0_keeps_195 hl (k := 6) rfl (cd_inc _) (by decide) rfl (fun ls hl => ?_)
                refine lv_goto (tgt := 4) hx hb dX0_keeps_198 (by decide) ?_
                exact ih4 _ _ (by omega) ⟨i + 1, rfl, (by omega), lv_sub hl [5, 6, 1, 0] rfl⟩
              · refine lv_iconst (v := nI 1) hx hb dX0_keeps_118 (by decide) ?_
                refine lv_goto (tgt := 123) hx hb dX0_keeps_119 (by decide) ?_
                refine cd_v (y := cd_b (∀ j, j < i + 1 → cd_kp K L R t j)) ((cd_b1 (cd_alls c13 (by simp [cd_kp, c9, c13, c56, c95, c102, c107, c115]))).symm) ?_
                refine lv_istore_n (lv' := [(2, .int (cd_b (∀ j, j < i + 1 → cd_kp K L R t j))), (6, .int (cd_b (t.testBit (R i) = true))), (5, .int (cd_b (t.testBit (L i) = true))), (4, .int (cd_b (t.testBit i = true))), (0, .ref (a 0)), (1, .int (nI t)), (3, .int (nI i))]) hx hb dX0_keeps_123 rfl hl (by decide) rfl (fun ls hl => ?_)
                refine lv_goto (tgt := 195) hx hb dX0_keeps_124 (by decide) ?_
                refine lv_iinc (v := nI (i + 1)) (lv' := [(3, .int (nI (i + 1))), (2, .int (cd_b (∀ j, j < i + 1 → cd_kp K L R t j))), (6, .int (cd_b (t.testBit (R i) = true))), (5, .int (cd_b (t.testBit (L i) = true))), (4, .int (cd_b (t.testBit i = true))), (0, .ref (a 0)), (1, .int (nI t))]) hx hb dX0_keeps_195 hl (k := 6) rfl (cd_inc _) (by decide) rfl (fun ls hl => ?_)
                refine lv_goto (tgt := 4) hx hb dX0_keeps_198 (by decide) ?_
                exact ih4 _ _ (by omega) ⟨i + 1, rfl, (by omega), lv_sub hl [5, 6, 1, 0] rfl⟩
            · refine lv_iconst (v := nI 1) hx hb dX0_keeps_110 (by decide) ?_
              refine lv_goto (tgt := 115) hx hb dX0_keeps_111 (by decide) ?_
              refine cd_icmpb_ne1 (tgt := 122) hx hb dX0_keeps_115 (by decide) (fun c115 => ?_) (fun c115 => ?_)
              · refine lv_iconst (v := nI 0) hx hb dX0_keeps_122 (by decide) ?_
                refine cd_v (y := cd_b (∀ j, j < i + 1 → cd_kp K L R t j)) ((cd_b0 (cd_alln (by simp [cd_kp, c9, c13, c56, c95, c102, c107, c115]))).symm) ?_
                refine lv_istore_n (lv' := [(2, .int (cd_b (∀ j, j < i + 1 → cd_kp K L R t j))), (6, .int (cd_b (t.testBit (R i) = true))), (5, .int (cd_b (t.testBit (L i) = true))), (4, .int (cd_b (t.testBit i = true))), (0, .ref (a 0)), (1, .int (nI t)), (3, .int (nI i))]) hx hb dX0_keeps_123 rfl hl (by decide) rfl (fun ls hl => ?_)
                refine lv_goto (tgt := 195) hx hb dX0_keeps_124 (by decide) ?_
                refine lv_iinc (v := nI (i + 1)) (lv' := [(3, .int (nI (i + 1))), (2, .int (cd_b (∀ j, j < i + 1 → cd_kp K L R t j))), (6, .int (cd_b (t.testBit (R i) = true))), (5, .int (cd_b (t.testBit (L i) = true))), (4, .int (cd_b (t.testBit i = true))), (0, .ref (a 0)), (1, .int (nI t))]) hx hb dX0_keeps_195 hl (k := 6) rfl (cd_inc _) (by decide) rfl (fun ls hl => ?_)
                refine lv_goto (tgt := 4) hx hb dX0_keeps_198 (by decide) ?_
                exact ih4 _ _ (by omega) ⟨i + 1, rfl, (by omega), lv_sub hl [5, 6, 1, 0] rfl⟩
              · refine lv_iconst (v := nI 1) hx hb dX0_keeps_118 (by decide) ?_
                refine lv_goto (tgt := 123) hx hb dX0_keeps_119 (by decide) ?_
                refine cd_v (y := cd_b (∀ j, j < i + 1 → cd_kp K L R t j)) ((cd_b1 (cd_alls c13 (by simp [cd_kp, c9, c13, c56, c95, c102, c107, c115]))).symm) ?_
                refine lv_istore_n (lv' := [(2, .int (cd_b (∀ j, j < i + 1 → cd_kp K L R t j))), (6, .int (cd_b (t.testBit (R i) = true))), (5, .int (cd_b (t.testBit (L i) = true))), (4, .int (cd_b (t.testBit i = true))), (0, .ref (a 0)), (1, .int (nI t)), (3, .int (nI i))]) hx hb dX0_keeps_123 rfl hl (by decide) rfl (fun ls hl => ?_)
                refine lv_goto (tgt := 195) hx hb dX0_keeps_124 (by decide) ?_
                refine lv_iinc (v := nI (i + 1)) (lv' := [(3, .int (nI (i + 1))), (2, .int (cd_b (∀ j, j < i + 1 → cd_kp K L R t j))), (6, .int (cd_b (t.testBit (R i) = true))), (5, .int (cd_b (t.testBit (L i) = true))), (4, .int (cd_b (t.testBit i = true))), (0, .ref (a 0)), (1, .int (nI t))]) hx hb dX0_keeps_195 hl (k := 6) rfl (cd_inc _) (by decide) rfl (fun ls hl => ?_)
                refine lv_goto (tgt := 4) hx hb dX0_keeps_198 (by decide) ?_
                exact ih4 _ _ (by omega) ⟨i + 1, rfl, (by omega), lv_sub hl [5, 6, 1, 0] rfl⟩
      · refine lv_iload hx hb dX0_keeps_59 (lv_at hl 2 rfl) ?_
        refine lv_iload hx hb dX0_keeps_61 (lv_at hl 1 rfl) ?_
        refine cd_ifb_eq (tgt := 75) hx hb dX0_keeps_63 (by decide) (fun c63 => ?_) (fun c63 => ?_)
        · refine lv_iconst (v := nI 0) hx hb dX0_keeps_75 (by decide) ?_
          refine cd_icmpb_ne0 (tgt := 83) hx hb dX0_keeps_76 (by decide) (fun c76 => ?_) (fun c76 => ?_)
          · refine lv_iconst (v := nI 0) hx hb dX0_keeps_83 (by decide) ?_
            refine cd_v (y := cd_b (∀ j, j < i + 1 → cd_kp K L R t j)) ((cd_b0 (cd_alln (by simp [cd_kp, c9, c13, c56, c63, c76]))).symm) ?_
            refine lv_istore_n (lv' := [(2, .int (cd_b (∀ j, j < i + 1 → cd_kp K L R t j))), (6, .int (cd_b (t.testBit (R i) = true))), (5, .int (cd_b (t.testBit (L i) = true))), (4, .int (cd_b (t.testBit i = true))), (0, .ref (a 0)), (1, .int (nI t)), (3, .int (nI i))]) hx hb dX0_keeps_84 rfl hl (by decide) rfl (fun ls hl => ?_)
            refine lv_goto (tgt := 195) hx hb dX0_keeps_85 (by decide) ?_
            refine lv_iinc (v := nI (i + 1)) (lv' := [(3, .int (nI (i + 1))), (2, .int (cd_b (∀ j, j < i + 1 → cd_kp K L R t j))), (6, .int (cd_b (t.testBit (R i) = true))), (5, .int (cd_b (t.testBit (L i) = true))), (4, .int (cd_b (t.testBit i = true))), (0, .ref (a 0)), (1, .int (nI t))]) hx hb dX0_keeps_195 hl (k := 6) rfl (cd_inc _) (by decide) rfl (fun ls hl => ?_)
            refine lv_goto (tgt := 4) hx hb dX0_keeps_198 (by decide) ?_
            exact ih4 _ _ (by omega) ⟨i + 1, rfl, (by omega), lv_sub hl [5, 6, 1, 0] rfl⟩
          · refine lv_iconst (v := nI 1) hx hb dX0_keeps_79 (by decide) ?_
            refine lv_goto (tgt := 84) hx hb dX0_keeps_80 (by decide) ?_
            refine cd_v (y := cd_b (∀ j, j < i + 1 → cd_kp K L R t j)) ((cd_b1 (cd_alls c13 (by simp [cd_kp, c9, c13, c56, c63, c76]))).symm) ?_
            refine lv_istore_n (lv' := [(2, .int (cd_b (∀ j, j < i + 1 → cd_kp K L R t j))), (6, .int (cd_b (t.testBit (R i) = true))), (5, .int (cd_b (t.testBit (L i) = true))), (4, .int (cd_b (t.testBit i = true))), (0, .ref (a 0)), (1, .int (nI t)), (3, .int (nI i))]) hx hb dX0_keeps_84 rfl hl (by decide) rfl (fun ls hl => ?_)
            refine lv_goto (tgt := 195) hx hb dX0_keeps_85 (by decide) ?_
            refine lv_iinc (v := nI (i + 1)) (lv' := [(3, .int (nI (i + 1))), (2, .int (cd_b (∀ j, j < i + 1 → cd_kp K L R t j))), (6, .int (cd_b (t.testBit (R i) = true))), (5, .int (cd_b (t.testBit (L i) = true))), (4, .int (cd_b (t.testBit i = true))), (0, .ref (a 0)), (1, .int (nI t))]) hx hb dX0_keeps_195 hl (k := 6) rfl (cd_inc _) (by decide) rfl (fun ls hl => ?_)
            refine lv_goto (tgt := 4) hx hb dX0_keeps_198 (by decide) ?_
            exact ih4 _ _ (by omega) ⟨i + 1, rfl, (by omega), lv_sub hl [5, 6, 1, 0] rfl⟩
        · refine lv_iload hx hb dX0_keeps_66 (lv_at hl 0 rfl) ?_
          refine cd_ifb_eq (tgt := 75) hx hb dX0_keeps_68 (by decide) (fun c68 => ?_) (fun c68 => ?_)
          · refine lv_iconst (v := nI 0) hx hb dX0_keeps_75 (by decide) ?_
            refine cd_icmpb_ne0 (tgt := 83) hx hb dX0_keeps_76 (by decide) (fun c76 => ?_) (fun c76 => ?_)
            · refine lv_iconst (v := nI 0) hx hb dX0_keeps_83 (by decide) ?_
              refine cd_v (y := cd_b (∀ j, j < i + 1 → cd_kp K L R t j)) ((cd_b0 (cd_alln (by simp [cd_kp, c9, c13, c56, c63, c68, c76]))).symm) ?_
              refine lv_istore_n (lv' := [(2, .int (cd_b (∀ j, j < i + 1 → cd_kp K L R t j))), (6, .int (cd_b (t.testBit (R i) = true))), (5, .int (cd_b (t.testBit (L i) = true))), (4, .int (cd_b (t.testBit i = true))), (0, .ref (a 0)), (1, .int (nI t)), (3, .int (nI i))]) hx hb dX0_keeps_84 rfl hl (by decide) rfl (fun ls hl => ?_)
              refine lv_goto (tgt := 195) hx hb dX0_keeps_85 (by decide) ?_
              refine lv_iinc (v := nI (i + 1)) (lv' := [(3, .int (nI (i + 1))), (2, .int (cd_b (∀ j, j < i + 1 → cd_kp K L R t j))), (6, .int (cd_b (t.testBit (R i) = true))), (5, .int (cd_b (t.testBit (L i) = true))), (4, .int (cd_b (t.testBit i = true))), (0, .ref (a 0)), (1, .int (nI t))]) hx hb dX0_keeps_195 hl (k := 6) rfl (cd_inc _) (by decide) rfl (fun ls hl => ?_)
              refine lv_goto (tgt := 4) hx hb dX0_keeps_198 (by decide) ?_
              exact ih4 _ _ (by omega) ⟨i + 1, rfl, (by omega), lv_sub hl [5, 6, 1, 0] rfl⟩
            · refine lv_iconst (v := nI 1) hx hb dX0_keeps_79 (by decide) ?_
              refine lv_goto (tgt := 84) hx hb dX0_keeps_80 (by decide) ?_
              refine cd_v (y := cd_b (∀ j, j < i + 1 → cd_kp K L R t j)) ((cd_b1 (cd_alls c13 (by simp [cd_kp, c9, c13, c56, c63, c68, c76]))).symm) ?_
              refine lv_istore_n (lv' := [(2, .int (cd_b (∀ j, j < i + 1 → cd_kp K L R t j))), (6, .int (cd_b (t.testBit (R i) = true))), (5, .int (cd_b (t.testBit (L i) = true))), (4, .int (cd_b (t.testBit i = true))), (0, .ref (a 0)), (1, .int (nI t)), (3, .int (nI i))]) hx hb dX0_keeps_84 rfl hl (by decide) rfl (fun ls hl => ?_)
              refine lv_goto (tgt := 195) hx hb dX0_keeps_85 (by decide) ?_
              refine lv_iinc (v := nI (i + 1)) (lv' := [(3, .int (nI (i + 1))), (2, .int (cd_b (∀ j, j < i + 1 → cd_kp K L R t j))), (6, .int (cd_b (t.testBit (R i) = true))), (5, .int (cd_b (t.testBit (L i) = true))), (4, .int (cd_b (t.testBit i = true))), (0, .ref (a 0)), (1, .int (nI t))]) hx hb dX0_keeps_195 hl (k := 6) rfl (cd_inc _) (by decide) rfl (fun ls hl => ?_)
              refine lv_goto (tgt := 4) hx hb dX0_keeps_198 (by decide) ?_
              exact ih4 _ _ (by omega) ⟨i + 1, rfl, (by omega), lv_sub hl [5, 6, 1, 0] rfl⟩
          · refine lv_iconst (v := nI 1) hx hb dX0_keeps_71 (by decide) ?_
            refine lv_goto (tgt := 76) hx hb dX0_keeps_72 (by decide) ?_
            refine cd_icmpb_ne1 (tgt := 83) hx hb dX0_keeps_76 (by decide) (fun c76 => ?_) (fun c76 => ?_)
            · refine lv_iconst (v := nI 0) hx hb dX0_keeps_83 (by decide) ?_
              refine cd_v (y := cd_b (∀ j, j < i + 1 → cd_kp K L R t j)) ((cd_b0 (cd_alln (by simp [cd_kp, c9, c13, c56, c63, c68, c76]))).symm) ?_
              refine lv_istore_n (lv' := [(2, .int (cd_b (∀ j, j < i + 1 → cd_kp K L R t j))), (6, .int (cd_b (t.testBit (R i) = true))), (5, .int (cd_b (t.testBit (L i) = true))), (4, .int (cd_b (t.testBit i = true))), (0, .ref (a 0)), (1, .int (nI t)), (3, .int (nI i))]) hx hb dX0_keeps_84 rfl hl (by decide) rfl (fun ls hl => ?_)
              refine lv_goto (tgt := 195) hx hb dX0_keeps_85 (by decide) ?_
              refine lv_iinc (v := nI (i + 1)) (lv' := [(3, .int (nI (i + 1))), (2, .int (cd_b (∀ j, j < i + 1 → cd_kp K L R t j))), (6, .int (cd_b (t.testBit (R i) = true))), (5, .int (cd_b (t.testBit (L i) = true))), (4, .int (cd_b (t.testBit i = true))), (0, .ref (a 0)), (1, .int (nI t))]) hx hb dX0_keeps_195 hl (k := 6) rfl (cd_inc _) (by decide) rfl (fun ls hl => ?_)
              refine lv_goto (tgt := 4) hx hb dX0_keeps_198 (by decide) ?_
              exact ih4 _ _ (by omega) ⟨i + 1, rfl, (by omega), lv_sub hl [5, 6, 1, 0] rfl⟩
            · refine lv_iconst (v := nI 1) hx hb dX0_keeps_79 (by decide) ?_
              refine lv_goto (tgt := 84) hx hb dX0_keeps_80 (by decide) ?_
              refine cd_v (y := cd_b (∀ j, j < i + 1 → cd_kp K L R t j)) ((cd_b1 (cd_alls c13 (by simp [cd_kp, c9, c13, c56, c63, c68, c76]))).symm) ?_
              refine lv_istore_n (lv' := [(2, .int (cd_b (∀ j, j < i + 1 → cd_kp K L R t j))), (6, .int (cd_b (t.testBit (R i) = true))), (5, .int (cd_b (t.testBit (L i) = true))), (4, .int (cd_b (t.testBit i = true))), (0, .ref (a 0)), (1, .int (nI t)), (3, .int (nI i))]) hx hb dX0_keeps_84 rfl hl (by decide) rfl (fun ls hl => ?_)
              refine lv_goto (tgt := 195) hx hb dX0_keeps_85 (by decide) ?_
              refine lv_iinc (v := nI (i + 1)) (lv' := [(3, .int (nI (i + 1))), (2, .int (cd_b (∀ j, j < i + 1 → cd_kp K L R t j))), (6, .int (cd_b (t.testBit (R i) = true))), (5, .int (cd_b (t.testBit (L i) = true))), (4, .int (cd_b (t.testBit i = true))), (0, .ref (a 0)), (1, .int (nI t))]) hx hb dX0_keeps_195 hl (k := 6) rfl (cd_inc _) (by decide) rfl (fun ls hl => ?_)
              refine lv_goto (tgt := 4) hx hb dX0_keeps_198 (by decide) ?_
              exact ih4 _ _ (by omega) ⟨i + 1, rfl, (by omega), lv_sub hl [5, 6, 1, 0] rfl⟩
theorem kD_keeps {R0 : Room} {s : State} {args : Array Value} (hts : ∀ w ∈ lw_all, w.before args s = true) (h : (cd_rm 1).frames + 1 ≤ R0.frames ∧ 8 + (7 + 11) + (cd_rm 1).locals ≤ R0.locals) : CallW R0 s args RX0 RX0 49 yX0_keeps cX0_keeps 7 (some .boolean) (ws_ yX0_keeps cX0_keeps 7 (some .boolean)) (cd_rm 1) 0 0 1 := cwV 1 hts (lw_V q109 q111 qs5 q25 q112) rfl rfl rfl (by decide +kernel) h
set_option maxHeartbeats 4000000 in
set_option maxRecDepth 100000 in
/-- parts(set, a, b): a saturated set above has a and lacks b -/
theorem mD_parts (l : Launch) (D : va_G) (a : Nat → Nat) (d : Nat → ClassId) (n : Nat) (K : Nat → Nat) (L : Nat → Nat) (R : Nat → Nat) (kn : Prop) (fd : Nat) (Wl : Nat → Nat) (hu : Nat) (Hl : Nat → Nat) (t x y : Nat) (ht : t < 2048) (hfd : fd ≤ 2048) (hkx : x < 32) (hky : y < 32) : cd_RO l yX0_parts (ws_ yX0_parts cX0_parts 6 (some .boolean)) (cd_rm 1) D (cd_tD d) (cd_wD a d n K L R kn fd Wl hu Hl) [.ref (a 0), .int (nI t), .int (nI x), .int (nI y)] (cd_b (cd_pt fd Wl t x y)) := by
  refine cd_enterRO (own := RX0) (by decide) rfl (Nat.le_of_ble_eq_true rfl) ?_
  intro p e s m below meth c ls hx hb hr hlocks hml hown hts hK hP hl
  have hl : lv_has ls 6 [(0, .ref (a 0)), (1, .int (nI t)), (2, .int (nI x)), (3, .int (nI y))] := hl
  refine lv_aload_n hx hb dX0_parts_0 rfl (lv_at hl 0 rfl) ?_
  refine lv_iload_n hx hb dX0_parts_1 rfl (lv_at hl 1 rfl) ?_
  refine lv_iload_n hx hb dX0_parts_2 rfl (lv_at hl 2 rfl) ?_
  refine cd_callRO ⟨hx, hb, hml, hown, hts⟩ (mD_inN l D a d n K L R kn fd Wl hu Hl t x (by omega)) (kD_in hts ⟨Nat.le_of_ble_eq_true rfl, Nat.le_of_ble_eq_true rfl⟩) rfl rfl rfl hP hK rfl hl.1 rfl (Nat.le_of_ble_eq_true rfl) dX0_parts_3 ⟨Nat.zero_le _, Nat.zero_le _⟩ ?_
  refine cd_ifb_eq (tgt := 20) hx hb dX0_parts_6 (by decide) (fun c6 => ?_) (fun c6 => ?_)
  · have hno : ¬ (t.testBit x = true ∧ ¬ t.testBit y = true) := fun h => c6 h.1
    refine lv_iconst (v := nI 0) hx hb dX0_parts_20 (by decide) ?_
    refine lv_istore (lv' := [(4, .int (nI 0)), (0, .ref (a 0)), (1, .int (nI t)), (2, .int (nI x)), (3, .int (nI y))]) hx hb dX0_parts_21 hl (by decide) rfl (fun ls hl => ?_)
    refine cd_loopR (fun N_ ls_ => ∃ (w : Nat), N_ = fd - w ∧ w ≤ fd ∧ (∀ j, j < w → ¬ (cd_sub t (Wl j) ∧ (Wl j).testBit x = true ∧ ¬ (Wl j).testBit y = true)) ∧ lv_has ls_ 6 [(0, .ref (a 0)), (1, .int (nI t)), (2, .int (nI x)), (3, .int (nI y)), (4, .int (nI w))]) ?_ _ ⟨0, rfl, (by omega), cd_all0, lv_sub hl [1, 2, 3, 4, 0] rfl⟩
    intro N23 ls hI23 ih23
    obtain ⟨w, hN23, hw, hno2, hl⟩ := hI23
    refine lv_iload hx hb dX0_parts_23 (lv_at hl 4 rfl) ?_
    refine lv_aload_n hx hb dX0_parts_25 rfl (lv_at hl 0 rfl) ?_
    refine gD_found hx hb hts hown hK hP dX0_parts_26 ?_
    refine cd_icmp_ge (tgt := 78) (by omega) (by omega) hx hb dX0_parts_29 (by decide) (fun c29 => ?_) (fun c29 => ?_)
    · refine lv_iconst (v := nI 0) hx hb dX0_parts_78 (by decide) ?_
      refine cd_v (y := cd_b (cd_pt fd Wl t x y)) ((cd_b0 (fun h => h.elim hno (fun ⟨j, hj, z⟩ => hno2 j (by omega) z))).symm) ?_
      exact cd_retZ hx hb hr hlocks dX0_parts_79
    · refine lv_aload_n hx hb dX0_parts_32 rfl (lv_at hl 0 rfl) ?_
      refine gD_world hx hb hts hown hK hP dX0_parts_33 ?_
      refine lv_iload hx hb dX0_parts_36 (lv_at hl 4 rfl) ?_
      refine lD_world hx hb hK hP (by omega) dX0_parts_38 ?_
      refine lv_istore (lv' := [(5, .int (nI (Wl w))), (0, .ref (a 0)), (1, .int (nI t)), (2, .int (nI x)), (3, .int (nI y)), (4, .int (nI w))]) hx hb dX0_parts_39 hl (by decide) rfl (fun ls hl => ?_)
      refine lv_iload_n hx hb dX0_parts_41 rfl (lv_at hl 2 rfl) ?_
      refine lv_iload hx hb dX0_parts_42 (lv_at hl 0 rfl) ?_
      refine lv_iconst (v := (-1)) hx hb dX0_parts_44 (by decide) ?_
      refine lv_ixor hx hb dX0_parts_45 ?_
      refine lv_iand hx hb dX0_parts_46 ?_
      refine cd_v (y := nI (cd_df t (Wl w))) (cd_andn _ _) ?_
      refine cd_if_ne (tgt := 72) (cd_df31 ht) hx hb dX0_parts_47 (by decide) (fun c47 => ?_) (fun c47 => ?_)
      · refine lv_iinc (v := nI (w + 1)) (lv' := [(4, .int (nI (w + 1))), (5, .int (nI (Wl w))), (0, .ref (a 0)), (1, .int (nI t)), (2, .int (nI x)), (3, .int (nI y))]) hx hb dX0_parts_72 hl (k := 5) rfl (cd_inc _) (by decide) rfl (fun ls hl => ?_)
        refine lv_goto (tgt := 23) hx hb dX0_parts_75 (by decide) ?_
        exact ih23 _ _ (by omega) ⟨w + 1, rfl, (by omega), cd_alls hno2 (fun h => c47 (cd_df0.mpr h.1)), lv_sub hl [2, 3, 4, 5, 0] rfl⟩
      · refine lv_aload_n hx hb dX0_parts_50 rfl (lv_at hl 1 rfl) ?_
        refine lv_iload hx hb dX0_parts_51 (lv_at hl 0 rfl) ?_
        refine lv_iload_n hx hb dX0_parts_53 rfl (lv_at hl 3 rfl) ?_
        refine cd_callRO ⟨hx, hb, hml, hown, hts⟩ (mD_inN l D a d n K L R kn fd Wl hu Hl (Wl w) x (by omega)) (kD_in hts ⟨Nat.le_of_ble_eq_true rfl, Nat.le_of_ble_eq_true rfl⟩) rfl rfl rfl hP hK rfl hl.1 rfl (Nat.le_of_ble_eq_true rfl) dX0_parts_54 ⟨Nat.zero_le _, Nat.zero_le _⟩ ?_
        refine cd_ifb_eq (tgt := 72) hx hb dX0_parts_57 (by decide) (fun c57 => ?_) (fun c57 => ?_)
        · refine lv_iinc (v := nI (w + 1)) (lv' := [(4, .int (nI (w + 1))), (5, .int (nI (Wl w))), (0, .ref (a 0)), (1, .int (nI t)), (2, .int (nI x)), (3, .int (nI y))]) hx hb dX0_parts_72 hl (k := 5) rfl (cd_inc _) (by decide) rfl (fun ls hl => ?_)
          refine lv_goto (tgt := 23) hx hb dX0_parts_75 (by decide) ?_
          exact ih23 _ _ (by omega) ⟨w + 1, rfl, (by omega), cd_alls hno2 (fun h => c57 h.2.1), lv_sub hl [2, 3, 4, 5, 0] rfl⟩
        · refine lv_aload_n hx hb dX0_parts_60 rfl (lv_at hl 1 rfl) ?_
          refine lv_iload hx hb dX0_parts_61 (lv_at hl 0 rfl) ?_
          refine lv_iload_n hx hb dX0_parts_63 rfl (lv_at hl 4 rfl) ?_
          refine cd_callRO ⟨hx, hb, hml, hown, hts⟩ (mD_inN l D a d n K L R kn fd Wl hu Hl (Wl w) y (by omega)) (kD_in hts ⟨Nat.le_of_ble_eq_true rfl, Nat.le_of_ble_eq_true rfl⟩) rfl rfl rfl hP hK rfl hl.1 rfl (Nat.le_of_ble_eq_true rfl) dX0_parts_64 ⟨Nat.zero_le _, Nat.zero_le _⟩ ?_
          refine cd_ifb_ne (tgt := 72) hx hb dX0_parts_67 (by decide) (fun c67 => ?_) (fun c67 => ?_)
          · refine lv_iinc (v := nI (w + 1)) (lv' := [(4, .int (nI (w + 1))), (5, .int (nI (Wl w))), (0, .ref (a 0)), (1, .int (nI t)), (2, .int (nI x)), (3, .int (nI y))]) hx hb dX0_parts_72 hl (k := 5) rfl (cd_inc _) (by decide) rfl (fun ls hl => ?_)
            refine lv_goto (tgt := 23) hx hb dX0_parts_75 (by decide) ?_
            exact ih23 _ _ (by omega) ⟨w + 1, rfl, (by omega), cd_alls hno2 (fun h => h.2.2 c67), lv_sub hl [2, 3, 4, 5, 0] rfl⟩
          · refine lv_iconst (v := nI 1) hx hb dX0_parts_70 (by decide) ?_
            refine cd_v (y := cd_b (cd_pt fd Wl t x y)) ((cd_b1 (Or.inr ⟨w, c29, cd_df0.mp c47, c57, c67⟩)).symm) ?_
            exact cd_retZ hx hb hr hlocks dX0_parts_71
  · refine lv_aload_n hx hb dX0_parts_9 rfl (lv_at hl 0 rfl) ?_
    refine lv_iload_n hx hb dX0_parts_10 rfl (lv_at hl 1 rfl) ?_
    refine lv_iload_n hx hb dX0_parts_11 rfl (lv_at hl 3 rfl) ?_
    refine cd_callRO ⟨hx, hb, hml, hown, hts⟩ (mD_inN l D a d n K L R kn fd Wl hu Hl t y (by omega)) (kD_in hts ⟨Nat.le_of_ble_eq_true rfl, Nat.le_of_ble_eq_true rfl⟩) rfl rfl rfl hP hK rfl hl.1 rfl (Nat.le_of_ble_eq_true rfl) dX0_parts_12 ⟨Nat.zero_le _, Nat.zero_le _⟩ ?_
    refine cd_ifb_ne (tgt := 20) hx hb dX0_parts_15 (by decide) (fun c15 => ?_) (fun c15 => ?_)
    · have hno : ¬ (t.testBit x = true ∧ ¬ t.testBit y = true) := fun h => h.2 c15
      refine lv_iconst (v := nI 0) hx hb dX0_parts_20 (by decide) ?_
      refine lv_istore (lv' := [(4, .int (nI 0)), (0, .ref (a 0)), (1, .int (nI t)), (2, .int (nI x)), (3, .int (nI y))]) hx hb dX0_parts_21 hl (by decide) rfl (fun ls hl => ?_)
      refine cd_loopR (fun N_ ls_ => ∃ (w : Nat), N_ = fd - w ∧ w ≤ fd ∧ (∀ j, j < w → ¬ (cd_sub t (Wl j) ∧ (Wl j).testBit x = true ∧ ¬ (Wl j).testBit y = true)) ∧ lv_has ls_ 6 [(0, .ref (a 0)), (1, .int (nI t)), (2, .int (nI x)), (3, .int (nI y)), (4, .int (nI w))]) ?_ _ ⟨0, rfl, (by omega), cd_all0, lv_sub hl [1, 2, 3, 4, 0] rfl⟩
      intro N23 ls hI23 ih23
      obtain ⟨w, hN23, hw, hno2, hl⟩ := hI23
      refine lv_iload hx hb dX0_parts_23 (lv_at hl 4 rfl) ?_
      refine lv_aload_n hx hb dX0_parts_25 rfl (lv_at hl 0 rfl) ?_
      refine gD_found hx hb hts hown hK hP dX0_parts_26 ?_
      refine cd_icmp_ge (tgt := 78) (by omega) (by omega) hx hb dX0_parts_29 (by decide) (fun c29 => ?_) (fun c29 => ?_)
      · refine lv_iconst (v := nI 0) hx hb dX0_parts_78 (by decide) ?_
        refine cd_v (y := cd_b (cd_pt fd Wl t x y)) ((cd_b0 (fun h => h.elim hno (fun ⟨j, hj, z⟩ => hno2 j (by omega) z))).symm) ?_
        exact cd_retZ hx hb hr hlocks dX0_parts_79
      · refine lv_aload_n hx hb dX0_parts_32 rfl (lv_at hl 0 rfl) ?_
        refine gD_world hx hb hts hown hK hP dX0_parts_33 ?_
        refine lv_iload hx hb dX0_parts_36 (lv_at hl 4 rfl) ?_
        refine lD_world hx hb hK hP (by omega) dX0_parts_38 ?_
        refine lv_istore (lv' := [(5, .int (nI (Wl w))), (0, .ref (a 0)), (1, .int (nI t)), (2, .int (nI x)), (3, .int (nI y)), (4, .int (nI w))]) hx hb dX0_parts_39 hl (by decide) rfl (fun ls hl => ?_)
        refine lv_iload_n hx hb dX0_parts_41 rfl (lv_at hl 2 rfl) ?_
        refine lv_iload hx hb dX0_parts_42 (lv_at hl 0 rfl) ?_
        refine lv_iconst (v := (-1)) hx hb dX0_parts_44 (by decide) ?_
        refine lv_ixor hx hb dX0_parts_45 ?_
        refine lv_iand hx hb dX0_parts_46 ?_
        refine cd_v (y := nI (cd_df t (Wl w))) (cd_andn _ _) ?_
        refine cd_if_ne (tgt := 72) (cd_df31 ht) hx hb dX0_parts_47 (by decide) (fun c47 => ?_) (fun c47 => ?_)
        · refine lv_iinc (v := nI (w + 1)) (lv' := [(4, .int (nI (w + 1))), (5, .int (nI (Wl w))), (0, .ref (a 0)), (1, .int (nI t)), (2, .int (nI x)), (3, .int (nI y))]) hx hb dX0_parts_72 hl (k := 5) rfl (cd_inc _) (by decide) rfl (fun ls hl => ?_)
          refine lv_goto (tgt := 23) hx hb dX0_parts_75 (by decide) ?_
          exact ih23 _ _ (by omega) ⟨w + 1, rfl, (by omega), cd_alls hno2 (fun h => c47 (cd_df0.mpr h.1)), lv_sub hl [2, 3, 4, 5, 0] rfl⟩
        · refine lv_aload_n hx hb dX0_parts_50 rfl (lv_at hl 1 rfl) ?_
          refine lv_iload hx hb dX0_parts_51 (lv_at hl 0 rfl) ?_
          refine lv_iload_n hx hb dX0_parts_53 rfl (lv_at hl 3 rfl) ?_
          refine cd_callRO ⟨hx, hb, hml, hown, hts⟩ (mD_inN l D a d n K L R kn fd Wl hu Hl (Wl w) x (by omega)) (kD_in hts ⟨Nat.le_of_ble_eq_true rfl, Nat.le_of_ble_eq_true rfl⟩) rfl rfl rfl hP hK rfl hl.1 rfl (Nat.le_of_ble_eq_true rfl) dX0_parts_54 ⟨Nat.zero_le _, Nat.zero_le _⟩ ?_
          refine cd_ifb_eq (tgt := 72) hx hb dX0_parts_57 (by decide) (fun c57 => ?_) (fun c57 => ?_)
          · refine lv_iinc (v := nI (w + 1)) (lv' := [(4, .int (nI (w + 1))), (5, .int (nI (Wl w))), (0, .ref (a 0)), (1, .int (nI t)), (2, .int (nI x)), (3, .int (nI y))]) hx hb dX0_parts_72 hl (k := 5) rfl (cd_inc _) (by decide) rfl (fun ls hl => ?_)
            refine lv_goto (tgt := 23) hx hb dX0_parts_75 (by decide) ?_
            exact ih23 _ _ (by omega) ⟨w + 1, rfl, (by omega), cd_alls hno2 (fun h => c57 h.2.1), lv_sub hl [2, 3, 4, 5, 0] rfl⟩
          · refine lv_aload_n hx hb dX0_parts_60 rfl (lv_at hl 1 rfl) ?_
            refine lv_iload hx hb dX0_parts_61 (lv_at hl 0 rfl) ?_
            refine lv_iload_n hx hb dX0_parts_63 rfl (lv_at hl 4 rfl) ?_
            refine cd_callRO ⟨hx, hb, hml, hown, hts⟩ (mD_inN l D a d n K L R kn fd Wl hu Hl (Wl w) y (by omega)) (kD_in hts ⟨Nat.le_of_ble_eq_true rfl, Nat.le_of_ble_eq_true rfl⟩) rfl rfl rfl hP hK rfl hl.1 rfl (Nat.le_of_ble_eq_true rfl) dX0_parts_64 ⟨Nat.zero_le _, Nat.zero_le _⟩ ?_
            refine cd_ifb_ne (tgt := 72) hx hb dX0_parts_67 (by decide) (fun c67 => ?_) (fun c67 => ?_)
            · refine lv_iinc (v := nI (w + 1)) (lv' := [(4, .int (nI (w + 1))), (5, .int (nI (Wl w))), (0, .ref (a 0)), (1, .int (nI t)), (2, .int (nI x)), (3, .int (nI y))]) hx hb dX0_parts_72 hl (k := 5) rfl (cd_inc _) (by decide) rfl (fun ls hl => ?_)
              refine lv_goto (tgt := 23) hx hb dX0_parts_75 (by decide) ?_
              exact ih23 _ _ (by omega) ⟨w + 1, rfl, (by omega), cd_alls hno2 (fun h => h.2.2 c67), lv_sub hl [2, 3, 4, 5, 0] rfl⟩
            · refine lv_iconst (v := nI 1) hx hb dX0_parts_70 (by decide) ?_
              refine cd_v (y := cd_b (cd_pt fd Wl t x y)) ((cd_b1 (Or.inr ⟨w, c29, cd_df0.mp c47, c57, c67⟩)).symm) ?_
              exact cd_retZ hx hb hr hlocks dX0_parts_71
    · refine lv_iconst (v := nI 1) hx hb dX0_parts_18 (by decide) ?_
      refine cd_v (y := cd_b (cd_pt fd Wl t x y)) ((cd_b1 (Or.inl ⟨c6, c15⟩)).symm) ?_
      exact cd_retZ hx hb hr hlocks dX0_parts_19
theorem kD_parts {R0 : Room} {s : State} {args : Array Value} (hts : ∀ w ∈ lw_all, w.before args s = true) (h : (cd_rm 1).frames + 1 ≤ R0.frames ∧ 8 + (6 + 11) + (cd_rm 1).locals ≤ R0.locals) : CallW R0 s args RX0 RX0 52 yX0_parts cX0_parts 6 (some .boolean) (ws_ yX0_parts cX0_parts 6 (some .boolean)) (cd_rm 1) 0 0 3 := cwV 3 hts (lw_V q117 q119 qs7 q25 q120) rfl rfl rfl (by decide +kernel) h
set_option maxHeartbeats 4000000 in
set_option maxRecDepth 100000 in
/-- isWorld(set) -/
theorem mD_isWorld (l : Launch) (D : va_G) (a : Nat → Nat) (d : Nat → ClassId) (n : Nat) (K : Nat → Nat) (L : Nat → Nat) (R : Nat → Nat) (kn : Prop) (fd : Nat) (Wl : Nat → Nat) (hu : Nat) (Hl : Nat → Nat) (t : Nat) (hwf : cd_wf n K L R) (ht : t < 2048) (hfd : fd ≤ 2048) : cd_RO l yX0_isWorld (ws_ yX0_isWorld cX0_isWorld 4 (some .boolean)) (cd_rm 2) D (cd_tD d) (cd_wD a d n K L R kn fd Wl hu Hl) [.ref (a 0), .int (nI t)] (cd_b (cd_iw n K L R fd Wl t)) := by
  refine cd_enterRO (own := RX0) (by decide) rfl (Nat.le_of_ble_eq_true rfl) ?_
  intro p e s m below meth c ls hx hb hr hlocks hml hown hts hK hP hl
  have hl : lv_has ls 4 [(0, .ref (a 0)), (1, .int (nI t))] := hl
  have hn := hwf.1
  have hp11 := cd_p11 hn
  have hp1 := cd_p1 n
  refine lv_aload_n hx hb dX0_isWorld_0 rfl (lv_at hl 0 rfl) ?_
  refine lv_iload_n hx hb dX0_isWorld_1 rfl (lv_at hl 1 rfl) ?_
  refine cd_callRO ⟨hx, hb, hml, hown, hts⟩ (mD_keeps l D a d n K L R kn fd Wl hu Hl t hwf) (kD_keeps hts ⟨Nat.le_of_ble_eq_true rfl, Nat.le_of_ble_eq_true rfl⟩) rfl rfl rfl hP hK rfl hl.1 rfl (Nat.le_of_ble_eq_true rfl) dX0_isWorld_2 ⟨Nat.zero_le _, Nat.zero_le _⟩ ?_
  refine cd_v (y := cd_b ((∀ j, j < n → cd_kp K L R t j) ∧ ∀ j, j < 0 → K j = 2 → ¬ t.testBit j = true → cd_pt fd Wl t (L j) (R j))) (cd_bc ⟨fun h => ⟨h, cd_all0⟩, fun h => h.1⟩) ?_
  refine lv_istore_n (lv' := [(2, .int (cd_b ((∀ j, j < n → cd_kp K L R t j) ∧ ∀ j, j < 0 → K j = 2 → ¬ t.testBit j = true → cd_pt fd Wl t (L j) (R j)))), (0, .ref (a 0)), (1, .int (nI t))]) hx hb dX0_isWorld_5 rfl hl (by decide) rfl (fun ls hl => ?_)
  refine lv_iconst (v := nI 0) hx hb dX0_isWorld_6 (by decide) ?_
  refine lv_istore_n (lv' := [(3, .int (nI 0)), (2, .int (cd_b ((∀ j, j < n → cd_kp K L R t j) ∧ ∀ j, j < 0 → K j = 2 → ¬ t.testBit j = true → cd_pt fd Wl t (L j) (R j)))), (0, .ref (a 0)), (1, .int (nI t))]) hx hb dX0_isWorld_7 rfl hl (by decide) rfl (fun ls hl => ?_)
  refine cd_loopR (fun N_ ls_ => ∃ (i : Nat), N_ = n - i ∧ i ≤ n ∧ (lv_has ls_ 4 [(0, .ref (a 0)), (1, .int (nI t)), (2, .int (cd_b ((∀ j, j < n → cd_kp K L R t j) ∧ ∀ j, j < i → K j = 2 → ¬ t.testBit j = true → cd_pt fd Wl t (L j) (R j)))), (3, .int (nI i))])) ?_ _ ⟨0, rfl, (by omega), lv_sub hl [2, 3, 1, 0] rfl⟩
  intro N8 ls hI8 ih8
  obtain ⟨i, hN8, hi, hl⟩ := hI8
  refine lv_iload_n hx hb dX0_isWorld_8 rfl (lv_at hl 3 rfl) ?_
  refine lv_aload_n hx hb dX0_isWorld_9 rfl (lv_at hl 0 rfl) ?_
  refine gD_count hx hb hts hown hK hP dX0_isWorld_10 ?_
  refine cd_icmp_ge (tgt := 63) (by omega) (by omega) hx hb dX0_isWorld_13 (by decide) (fun c13 => ?_) (fun c13 => ?_)
  · refine lv_iload_n hx hb dX0_isWorld_63 rfl (lv_at hl 2 rfl) ?_
    refine cd_v (y := cd_b (cd_iw n K L R fd Wl t)) (cd_bc ⟨fun h => ⟨h.1, fun j hj => h.2 j (by omega)⟩, fun h => ⟨h.1, fun j hj => h.2 j (by omega)⟩⟩) ?_
    exact cd_retZ hx hb hr hlocks dX0_isWorld_64
  · obtain ⟨w1, w2, w3, w4⟩ := hwf.2 i c13
    refine lv_iload_n hx hb dX0_isWorld_16 rfl (lv_at hl 2 rfl) ?_
    refine cd_ifb_eq (tgt := 63) hx hb dX0_isWorld_17 (by decide) (fun c17 => ?_) (fun c17 => ?_)
    · refine lv_iload_n hx hb dX0_isWorld_63 rfl (lv_at hl 2 rfl) ?_
      refine cd_v (y := cd_b (cd_iw n K L R fd Wl t)) (cd_bc ⟨fun h => absurd h c17, fun h => ⟨h.1, fun j hj => h.2 j (by omega)⟩⟩) ?_
      exact cd_retZ hx hb hr hlocks dX0_isWorld_64
    · refine lv_aload_n hx hb dX0_isWorld_20 rfl (lv_at hl 0 rfl) ?_
      refine gD_kind hx hb hts hown hK hP dX0_isWorld_21 ?_
      refine lv_iload_n hx hb dX0_isWorld_24 rfl (lv_at hl 3 rfl) ?_
      refine lD_kind hx hb hK hP (by omega) dX0_isWorld_25 ?_
      refine lv_iconst (v := nI 2) hx hb dX0_isWorld_26 (by decide) ?_
      refine cd_icmp_ne (tgt := 57) (by omega) (by omega) hx hb dX0_isWorld_27 (by decide) (fun c27 => ?_) (fun c27 => ?_)
      · rw [cd_bc (show ((∀ j, j < n → cd_kp K L R t j) ∧ ∀ j, j < i → K j = 2 → ¬ t.testBit j = true → cd_pt fd Wl t (L j) (R j)) ↔ ((∀ j, j < n → cd_kp K L R t j) ∧ ∀ j, j < i + 1 → K j = 2 → ¬ t.testBit j = true → cd_pt fd Wl t (L j) (R j)) from ⟨fun h => ⟨h.1, cd_alls h.2 (fun q => absurd q c27)⟩, fun h => ⟨h.1, cd_alld h.2⟩⟩)] at hl
        refine lv_iinc (v := nI (i + 1)) (lv' := [(3, .int (nI (i + 1))), (0, .ref (a 0)), (1, .int (nI t)), (2, .int (cd_b ((∀ j, j < n → cd_kp K L R t j) ∧ ∀ j, j < i + 1 → K j = 2 → ¬ t.testBit j = true → cd_pt fd Wl t (L j) (R j))))]) hx hb dX0_isWorld_57 hl (k := 3) rfl (cd_inc _) (by decide) rfl (fun ls hl => ?_)
        refine lv_goto (tgt := 8) hx hb dX0_isWorld_60 (by decide) ?_
        exact ih8 _ _ (by omega) ⟨i + 1, rfl, (by omega), lv_sub hl [1, 2, 3, 0] rfl⟩
      · refine lv_aload_n hx hb dX0_isWorld_30 rfl (lv_at hl 0 rfl) ?_
        refine lv_iload_n hx hb dX0_isWorld_31 rfl (lv_at hl 1 rfl) ?_
        refine lv_iload_n hx hb dX0_isWorld_32 rfl (lv_at hl 3 rfl) ?_
        refine cd_callRO ⟨hx, hb, hml, hown, hts⟩ (mD_inN l D a d n K L R kn fd Wl hu Hl t i (by omega)) (kD_in hts ⟨Nat.le_of_ble_eq_true rfl, Nat.le_of_ble_eq_true rfl⟩) rfl rfl rfl hP hK rfl hl.1 rfl (Nat.le_of_ble_eq_true rfl) dX0_isWorld_33 ⟨Nat.zero_le _, Nat.zero_le _⟩ ?_
        refine cd_ifb_ne (tgt := 57) hx hb dX0_isWorld_36 (by decide) (fun c36 => ?_) (fun c36 => ?_)
        · rw [cd_bc (show ((∀ j, j < n → cd_kp K L R t j) ∧ ∀ j, j < i → K j = 2 → ¬ t.testBit j = true → cd_pt fd Wl t (L j) (R j)) ↔ ((∀ j, j < n → cd_kp K L R t j) ∧ ∀ j, j < i + 1 → K j = 2 → ¬ t.testBit j = true → cd_pt fd Wl t (L j) (R j)) from ⟨fun h => ⟨h.1, cd_alls h.2 (fun _ q => absurd c36 q)⟩, fun h => ⟨h.1, cd_alld h.2⟩⟩)] at hl
          refine lv_iinc (v := nI (i + 1)) (lv' := [(3, .int (nI (i + 1))), (0, .ref (a 0)), (1, .int (nI t)), (2, .int (cd_b ((∀ j, j < n → cd_kp K L R t j) ∧ ∀ j, j < i + 1 → K j = 2 → ¬ t.testBit j = true → cd_pt fd Wl t (L j) (R j))))]) hx hb dX0_isWorld_57 hl (k := 3) rfl (cd_inc _) (by decide) rfl (fun ls hl => ?_)
          refine lv_goto (tgt := 8) hx hb dX0_isWorld_60 (by decide) ?_
          exact ih8 _ _ (by omega) ⟨i + 1, rfl, (by omega), lv_sub hl [1, 2, 3, 0] rfl⟩
        · refine lv_aload_n hx hb dX0_isWorld_39 rfl (lv_at hl 0 rfl) ?_
          refine lv_iload_n hx hb dX0_isWorld_40 rfl (lv_at hl 1 rfl) ?_
          refine lv_aload_n hx hb dX0_isWorld_41 rfl (lv_at hl 0 rfl) ?_
          refine gD_left hx hb hts hown hK hP dX0_isWorld_42 ?_
          refine lv_iload_n hx hb dX0_isWorld_45 rfl (lv_at hl 3 rfl) ?_
          refine lD_left hx hb hK hP (by omega) dX0_isWorld_46 ?_
          refine lv_aload_n hx hb dX0_isWorld_47 rfl (lv_at hl 0 rfl) ?_
          refine gD_right hx hb hts hown hK hP dX0_isWorld_48 ?_
          refine lv_iload_n hx hb dX0_isWorld_51 rfl (lv_at hl 3 rfl) ?_
          refine lD_right hx hb hK hP (by omega) dX0_isWorld_52 ?_
          refine cd_callRO ⟨hx, hb, hml, hown, hts⟩ (mD_parts l D a d n K L R kn fd Wl hu Hl t (L i) (R i) ht hfd (by omega) (by omega)) (kD_parts hts ⟨Nat.le_of_ble_eq_true rfl, Nat.le_of_ble_eq_true rfl⟩) rfl rfl rfl hP hK rfl hl.1 rfl (Nat.le_of_ble_eq_true rfl) dX0_isWorld_53 ⟨Nat.zero_le _, Nat.zero_le _⟩ ?_
          refine cd_v (y := cd_b ((∀ j, j < n → cd_kp K L R t j) ∧ ∀ j, j < i + 1 → K j = 2 → ¬ t.testBit j = true → cd_pt fd Wl t (L j) (R j))) (cd_bc ⟨fun h => ⟨c17.1, cd_alls c17.2 (fun _ _ => h)⟩, fun h => h.2 i (Nat.lt_succ_self i) c27 c36⟩) ?_
          refine lv_istore_n (lv' := [(2, .int (cd_b ((∀ j, j < n → cd_kp K L R t j) ∧ ∀ j, j < i + 1 → K j = 2 → ¬ t.testBit j = true → cd_pt fd Wl t (L j) (R j)))), (0, .ref (a 0)), (1, .int (nI t)), (3, .int (nI i))]) hx hb dX0_isWorld_56 rfl hl (by decide) rfl (fun ls hl => ?_)
          refine lv_iinc (v := nI (i + 1)) (lv' := [(3, .int (nI (i + 1))), (2, .int (cd_b ((∀ j, j < n → cd_kp K L R t j) ∧ ∀ j, j < i + 1 → K j = 2 → ¬ t.testBit j = true → cd_pt fd Wl t (L j) (R j)))), (0, .ref (a 0)), (1, .int (nI t))]) hx hb dX0_isWorld_57 hl (k := 3) rfl (cd_inc _) (by decide) rfl (fun ls hl => ?_)
          refine lv_goto (tgt := 8) hx hb dX0_isWorld_60 (by decide) ?_
          exact ih8 _ _ (by omega) ⟨i + 1, rfl, (by omega), lv_sub hl [2, 3, 1, 0] rfl⟩
theorem kD_isWorld {R0 : Room} {s : State} {args : Array Value} (hts : ∀ w ∈ lw_all, w.before args s = true) (h : (cd_rm 2).frames + 1 ≤ R0.frames ∧ 8 + (4 + 11) + (cd_rm 2).locals ≤ R0.locals) : CallW R0 s args RX0 RX0 60 yX0_isWorld cX0_isWorld 4 (some .boolean) (ws_ yX0_isWorld cX0_isWorld 4 (some .boolean)) (cd_rm 2) 0 0 1 := cwV 1 hts (lw_V q105 q107 qs4 q25 q108) rfl rfl rfl (by decide +kernel) h
end
section
set_option maxHeartbeats 4000000 in
set_option maxRecDepth 100000 in
/-- find(): the saturated sets, the greater first -/
theorem mD_find (l : Launch) (D : va_G) (a : Nat → Nat) (d : Nat → ClassId) (n : Nat) (K : Nat → Nat) (L : Nat → Nat) (R : Nat → Nat) (kn : Prop) (fd : Nat) (Wl : Nat → Nat) (hu : Nat) (Hl : Nat → Nat) (hwf : cd_wf n K L R) (hkw : kn → cd_WL n K L R 0 fd Wl) : cd_RV (S := Prop × Nat × (Nat → Nat)) l yX0_find (ws_ yX0_find cX0_find 3 none) (cd_rm 3) D (cd_tD d) (cd_wD a d n K L R kn fd Wl hu Hl) [.ref (a 0)] (fun u => u.1 ∧ cd_WL n K L R 0 u.2.1 u.2.2) (fun u => cd_wD a d n K L R u.1 u.2.1 u.2.2 hu Hl) := by
  refine cd_enterRV (own := RX0) (by decide) rfl (Nat.le_of_ble_eq_true rfl) ?_
  intro A p e s m below meth c ls hx hb hr hlocks hml hown hts hK hP hl hD hA hS
  have hl : lv_has ls 3 [(0, .ref (a 0))] := hl
  have hn := hwf.1
  have hp11 := cd_p11 hn
  have hp1 := cd_p1 n
  refine lv_aload_n hx hb dX0_find_0 rfl (lv_at hl 0 rfl) ?_
  refine gD_known hx hb hts hown hK hP dX0_find_1 ?_
  refine cd_ifb_eq (tgt := 8) hx hb dX0_find_4 (by decide) (fun c4 => ?_) (fun c4 => ?_)
  · refine lv_aload_n hx hb dX0_find_8 rfl (lv_at hl 0 rfl) ?_
    refine lv_iconst (v := nI 1) hx hb dX0_find_9 (by decide) ?_
    refine cd_v (y := cd_b True) (cd_b1 trivial).symm ?_
    refine sD_known hx hb hts hown hK hP hD hS dX0_find_10 (fun H locs hP hD hS => ?_)
    refine lv_aload_n hx hb dX0_find_13 rfl (lv_at hl 0 rfl) ?_
    refine lv_iconst (v := nI 0) hx hb dX0_find_14 (by decide) ?_
    refine sD_found hx hb hts hown hK hP hD hS dX0_find_15 (fun H locs hP hD hS => ?_)
    refine lv_aload_n hx hb dX0_find_18 rfl (lv_at hl 0 rfl) ?_
    refine cd_callRO ⟨hx, hb, hml, hown, hts⟩ (mD_every l D a d n K L R True 0 Wl hu Hl hn) (kD_every hts ⟨Nat.le_of_ble_eq_true rfl, Nat.le_of_ble_eq_true rfl⟩) rfl rfl rfl hP hK rfl hl.1 rfl (Nat.le_of_ble_eq_true rfl) dX0_find_19 ⟨Nat.zero_le _, Nat.zero_le _⟩ ?_
    refine cd_v (y := cd_pr (2 ^ n)) (cd_pr_p n) ?_
    refine lv_istore_n (lv' := [(1, .int (cd_pr (2 ^ n))), (0, .ref (a 0))]) hx hb dX0_find_22 rfl hl (by decide) rfl (fun ls hl => ?_)
    refine cd_loopW (fun N_ H_ locs_ ls_ => ∃ (t : Nat) (fd1 : Nat) (Wl1 : Nat → Nat), N_ = t ∧ t ≤ 2 ^ n ∧ cd_WL n K L R t fd1 Wl1 ∧ va_P D cd_cls (cd_wD a d n K L R True fd1 Wl1 hu Hl) H_ ∧ va_D A (cd_wD a d n K L R True fd1 Wl1 hu Hl) ∧ va_S A s.heap H_ locs_ ∧ lv_has ls_ 3 [(0, .ref (a 0)), (1, .int (cd_pr t))]) ?_ _ ⟨2 ^ n, 0, Wl, rfl, Nat.le_refl _, cd_WL_start, hP, hD, hS, lv_sub hl [1, 0] rfl⟩
    intro N23 H locs ls hI23 ih23
    obtain ⟨t, fd1, Wl1, hN23, ht, hWL, hP, hD, hS, hl⟩ := hI23
    rcases Nat.eq_zero_or_pos t with ht0 | ht0
    · subst ht0
      refine lv_iload_n hx hb dX0_find_23 rfl (lv_at hl 1 rfl) ?_
      refine lv_if_lt (tgt := 64) hx hb dX0_find_24 (by decide) (fun _ => ?_) (fun z => absurd cd_pr_0 z)
      exact cd_retV (True, fd1, Wl1) hx hb hr hlocks (⟨trivial, hWL⟩) hP hD hS dX0_find_64
    · obtain ⟨t1, rfl⟩ : ∃ t1, t = t1 + 1 := ⟨t - 1, by omega⟩
      rw [cd_pr_s] at hl
      have hlen := cd_WL_len hWL ht
      refine lv_iload_n hx hb dX0_find_23 rfl (lv_at hl 1 rfl) ?_
      refine cd_if_lt (tgt := 64) (by omega) hx hb dX0_find_24 (by decide) (fun z => z.elim) (fun c24 => ?_)
      refine lv_aload_n hx hb dX0_find_27 rfl (lv_at hl 0 rfl) ?_
      refine lv_iload_n hx hb dX0_find_28 rfl (lv_at hl 1 rfl) ?_
      refine cd_callRO ⟨hx, hb, hml, hown, hts⟩ (mD_isWorld l D a d n K L R True fd1 Wl1 hu Hl t1 hwf (by omega) (by omega)) (kD_isWorld hts ⟨Nat.le_of_ble_eq_true rfl, Nat.le_of_ble_eq_true rfl⟩) rfl rfl rfl hP hK rfl hl.1 rfl (Nat.le_of_ble_eq_true rfl) dX0_find_29 ⟨Nat.zero_le _, Nat.zero_le _⟩ ?_
      refine cd_v (y := cd_b (cd_W n K L R t1)) (cd_bc (cd_WL_iw hWL (by omega))) ?_
      refine lv_istore_n (lv' := [(2, .int (cd_b (cd_W n K L R t1))), (0, .ref (a 0)), (1, .int (nI t1))]) hx hb dX0_find_32 rfl hl (by decide) rfl (fun ls hl => ?_)
      refine lv_iload_n hx hb dX0_find_33 rfl (lv_at hl 0 rfl) ?_
      refine cd_ifb_eq (tgt := 58) hx hb dX0_find_34 (by decide) (fun c34 => ?_) (fun c34 => ?_)
      · refine lv_iinc (v := cd_pr t1) (lv' := [(1, .int (cd_pr t1)), (2, .int (cd_b (cd_W n K L R t1))), (0, .ref (a 0))]) hx hb dX0_find_58 hl (k := 2) rfl (rfl) (by decide) rfl (fun ls hl => ?_)
        refine lv_goto (tgt := 23) hx hb dX0_find_61 (by decide) ?_
        exact ih23 _ _ _ _ (by omega) ⟨t1, fd1, Wl1, rfl, (by omega), cd_WL_no hWL c34, hP, hD, hS, lv_sub hl [2, 0] rfl⟩
      · refine lv_aload_n hx hb dX0_find_37 rfl (lv_at hl 1 rfl) ?_
        refine gD_world hx hb hts hown hK hP dX0_find_38 ?_
        refine lv_aload_n hx hb dX0_find_41 rfl (lv_at hl 1 rfl) ?_
        refine gD_found hx hb hts hown hK hP dX0_find_42 ?_
        refine lv_iload_n hx hb dX0_find_45 rfl (lv_at hl 2 rfl) ?_
        refine lv_i2s (v := nI t1) hx hb dX0_find_46 (cd_i2s (by omega)) ?_
        refine tD_world hx hb hK hP hD hS (by omega) (by omega) dX0_find_47 (fun H locs hP hD hS => ?_)
        refine lv_aload_n hx hb dX0_find_48 rfl (lv_at hl 1 rfl) ?_
        refine lv_dup hx hb dX0_find_49 rfl ?_
        refine gD_found hx hb hts hown hK hP dX0_find_50 ?_
        refine lv_iconst (v := nI 1) hx hb dX0_find_53 (by decide) ?_
        refine lv_iadd hx hb dX0_find_54 ?_
        refine cd_v (y := nI (fd1 + 1)) (nI_add _ _) ?_
        refine sD_found hx hb hts hown hK hP hD hS dX0_find_55 (fun H locs hP hD hS => ?_)
        refine lv_iinc (v := cd_pr t1) (lv' := [(1, .int (cd_pr t1)), (2, .int (cd_b (cd_W n K L R t1))), (0, .ref (a 0))]) hx hb dX0_find_58 hl (k := 2) rfl (rfl) (by decide) rfl (fun ls hl => ?_)
        refine lv_goto (tgt := 23) hx hb dX0_find_61 (by decide) ?_
        exact ih23 _ _ _ _ (by omega) ⟨t1, fd1 + 1, cd_up Wl1 fd1 t1, rfl, (by omega), cd_WL_yes hWL (by omega) c34, hP, hD, hS, lv_sub hl [2, 0] rfl⟩
  · exact cd_retV (kn, fd, Wl) hx hb hr hlocks (⟨c4, hkw c4⟩) hP hD hS dX0_find_7
theorem kD_find {R0 : Room} {s : State} {args : Array Value} (hts : ∀ w ∈ lw_all, w.before args s = true) (h : (cd_rm 3).frames + 1 ≤ R0.frames ∧ 8 + (3 + 11) + (cd_rm 3).locals ≤ R0.locals) : CallW R0 s args RX0 RX0 63 yX0_find cX0_find 3 none (ws_ yX0_find cX0_find 3 none) (cd_rm 3) 0 0 0 := cwV 0 hts (lw_V q97 q99 qs2 q25 q100) rfl rfl rfl (by decide +kernel) h
set_option maxHeartbeats 4000000 in
set_option maxRecDepth 100000 in
/-- closure(set): what all saturated sets above it have -/
theorem mD_closure (l : Launch) (D : va_G) (a : Nat → Nat) (d : Nat → ClassId) (n : Nat) (K : Nat → Nat) (L : Nat → Nat) (R : Nat → Nat) (kn : Prop) (fd : Nat) (Wl : Nat → Nat) (hu : Nat) (Hl : Nat → Nat) (t : Nat) (hn : n ≤ 11) (ht : t < 2048) (hfd : fd ≤ 2048) : cd_RO l yX0_closure (ws_ yX0_closure cX0_closure 4 (some .int)) (cd_rm 1) D (cd_tD d) (cd_wD a d n K L R kn fd Wl hu Hl) [.ref (a 0), .int (nI t)] (nI (cd_co n fd Wl t)) := by
  refine cd_enterRO (own := RX0) (by decide) rfl (Nat.le_of_ble_eq_true rfl) ?_
  intro p e s m below meth c ls hx hb hr hlocks hml hown hts hK hP hl
  have hl : lv_has ls 4 [(0, .ref (a 0)), (1, .int (nI t))] := hl
  have hp11 := cd_p11 hn
  have hp1 := cd_p1 n
  refine lv_aload_n hx hb dX0_closure_0 rfl (lv_at hl 0 rfl) ?_
  refine cd_callRO ⟨hx, hb, hml, hown, hts⟩ (mD_every l D a d n K L R kn fd Wl hu Hl hn) (kD_every hts ⟨Nat.le_of_ble_eq_true rfl, Nat.le_of_ble_eq_true rfl⟩) rfl rfl rfl hP hK rfl hl.1 rfl (Nat.le_of_ble_eq_true rfl) dX0_closure_1 ⟨Nat.zero_le _, Nat.zero_le _⟩ ?_
  refine cd_v (y := nI (cd_co n 0 Wl t)) (congrArg nI (cd_co_0 n Wl t).symm) ?_
  refine lv_istore_n (lv' := [(2, .int (nI (cd_co n 0 Wl t))), (0, .ref (a 0)), (1, .int (nI t))]) hx hb dX0_closure_4 rfl hl (by decide) rfl (fun ls hl => ?_)
  refine lv_iconst (v := nI 0) hx hb dX0_closure_5 (by decide) ?_
  refine lv_istore_n (lv' := [(3, .int (nI 0)), (2, .int (nI (cd_co n 0 Wl t))), (0, .ref (a 0)), (1, .int (nI t))]) hx hb dX0_closure_6 rfl hl (by decide) rfl (fun ls hl => ?_)
  refine cd_loopR (fun N_ ls_ => ∃ (w : Nat), N_ = fd - w ∧ w ≤ fd ∧ lv_has ls_ 4 [(0, .ref (a 0)), (1, .int (nI t)), (2, .int (nI (cd_co n w Wl t))), (3, .int (nI w))]) ?_ _ ⟨0, rfl, (by omega), lv_sub hl [2, 3, 1, 0] rfl⟩
  intro N7 ls hI7 ih7
  obtain ⟨w, hN7, hw, hl⟩ := hI7
  refine lv_iload_n hx hb dX0_closure_7 rfl (lv_at hl 3 rfl) ?_
  refine lv_aload_n hx hb dX0_closure_8 rfl (lv_at hl 0 rfl) ?_
  refine gD_found hx hb hts hown hK hP dX0_closure_9 ?_
  refine cd_icmp_ge (tgt := 43) (by omega) (by omega) hx hb dX0_closure_12 (by decide) (fun c12 => ?_) (fun c12 => ?_)
  · refine lv_iload_n hx hb dX0_closure_43 rfl (lv_at hl 2 rfl) ?_
    refine cd_v (y := nI (cd_co n fd Wl t)) (by rw [Nat.le_antisymm hw c12]) ?_
    exact cd_retI hx hb hr hlocks dX0_closure_44
  · refine lv_iload_n hx hb dX0_closure_15 rfl (lv_at hl 1 rfl) ?_
    refine lv_aload_n hx hb dX0_closure_16 rfl (lv_at hl 0 rfl) ?_
    refine gD_world hx hb hts hown hK hP dX0_closure_17 ?_
    refine lv_iload_n hx hb dX0_closure_20 rfl (lv_at hl 3 rfl) ?_
    refine lD_world hx hb hK hP (by omega) dX0_closure_21 ?_
    refine lv_iconst (v := (-1)) hx hb dX0_closure_22 (by decide) ?_
    refine lv_ixor hx hb dX0_closure_23 ?_
    refine lv_iand hx hb dX0_closure_24 ?_
    refine cd_v (y := nI (cd_df t (Wl w))) (cd_andn _ _) ?_
    refine cd_if_ne (tgt := 37) (cd_df31 ht) hx hb dX0_closure_25 (by decide) (fun c25 => ?_) (fun c25 => ?_)
    · rw [cd_co_2 (fun z => c25 (cd_df0.mpr z))] at hl
      refine lv_iinc (v := nI (w + 1)) (lv' := [(3, .int (nI (w + 1))), (0, .ref (a 0)), (1, .int (nI t)), (2, .int (nI (cd_co n (w + 1) Wl t)))]) hx hb dX0_closure_37 hl (k := 3) rfl (cd_inc _) (by decide) rfl (fun ls hl => ?_)
      refine lv_goto (tgt := 7) hx hb dX0_closure_40 (by decide) ?_
      exact ih7 _ _ (by omega) ⟨w + 1, rfl, (by omega), lv_sub hl [1, 2, 3, 0] rfl⟩
    · refine lv_iload_n hx hb dX0_closure_28 rfl (lv_at hl 2 rfl) ?_
      refine lv_aload_n hx hb dX0_closure_29 rfl (lv_at hl 0 rfl) ?_
      refine gD_world hx hb hts hown hK hP dX0_closure_30 ?_
      refine lv_iload_n hx hb dX0_closure_33 rfl (lv_at hl 3 rfl) ?_
      refine lD_world hx hb hK hP (by omega) dX0_closure_34 ?_
      refine lv_iand hx hb dX0_closure_35 ?_
      refine cd_v (y := nI ((cd_co n w Wl t) &&& (Wl w))) (cd_and _ _) ?_
      refine cd_v (y := nI (cd_co n (w + 1) Wl t)) (congrArg nI (cd_co_1 (cd_df0.mp c25))) ?_
      refine lv_istore_n (lv' := [(2, .int (nI (cd_co n (w + 1) Wl t))), (0, .ref (a 0)), (1, .int (nI t)), (3, .int (nI w))]) hx hb dX0_closure_36 rfl hl (by decide) rfl (fun ls hl => ?_)
      refine lv_iinc (v := nI (w + 1)) (lv' := [(3, .int (nI (w + 1))), (2, .int (nI (cd_co n (w + 1) Wl t))), (0, .ref (a 0)), (1, .int (nI t))]) hx hb dX0_closure_37 hl (k := 3) rfl (cd_inc _) (by decide) rfl (fun ls hl => ?_)
      refine lv_goto (tgt := 7) hx hb dX0_closure_40 (by decide) ?_
      exact ih7 _ _ (by omega) ⟨w + 1, rfl, (by omega), lv_sub hl [2, 3, 1, 0] rfl⟩
theorem kD_closure {R0 : Room} {s : State} {args : Array Value} (hts : ∀ w ∈ lw_all, w.before args s = true) (h : (cd_rm 1).frames + 1 ≤ R0.frames ∧ 8 + (4 + 11) + (cd_rm 1).locals ≤ R0.locals) : CallW R0 s args RX0 RX0 66 yX0_closure cX0_closure 4 (some .int) (ws_ yX0_closure cX0_closure 4 (some .int)) (cd_rm 1) 0 0 1 := cwV 1 hts (lw_V q121 q123 qs8 q25 q124) rfl rfl rfl (by decide +kernel) h
set_option maxHeartbeats 4000000 in
set_option maxRecDepth 100000 in
/-- trueFor(choice) -/
theorem mD_trueFor (l : Launch) (D : va_G) (a : Nat → Nat) (d : Nat → ClassId) (n : Nat) (K : Nat → Nat) (L : Nat → Nat) (R : Nat → Nat) (kn : Prop) (fd : Nat) (Wl : Nat → Nat) (hu : Nat) (Hl : Nat → Nat) (ch : Nat) (hwf : cd_wf n K L R) : cd_RO l yX0_trueFor (ws_ yX0_trueFor cX0_trueFor 7 (some .int)) (cd_rm 1) D (cd_tD d) (cd_wD a d n K L R kn fd Wl hu Hl) [.ref (a 0), .int (nI ch)] (nI (cd_tf K L R ch n)) := by
  refine cd_enterRO (own := RX0) (by decide) rfl (Nat.le_of_ble_eq_true rfl) ?_
  intro p e s m below meth c ls hx hb hr hlocks hml hown hts hK hP hl
  have hl : lv_has ls 7 [(0, .ref (a 0)), (1, .int (nI ch))] := hl
  have hn := hwf.1
  have hp11 := cd_p11 hn
  have hp1 := cd_p1 n
  refine lv_iconst (v := nI 0) hx hb dX0_trueFor_0 (by decide) ?_
  refine cd_v (y := nI (cd_tf K L R ch 0)) (rfl) ?_
  refine lv_istore_n (lv' := [(2, .int (nI (cd_tf K L R ch 0))), (0, .ref (a 0)), (1, .int (nI ch))]) hx hb dX0_trueFor_1 rfl hl (by decide) rfl (fun ls hl => ?_)
  refine lv_iconst (v := nI 0) hx hb dX0_trueFor_2 (by decide) ?_
  refine lv_istore_n (lv' := [(3, .int (nI 0)), (2, .int (nI (cd_tf K L R ch 0))), (0, .ref (a 0)), (1, .int (nI ch))]) hx hb dX0_trueFor_3 rfl hl (by decide) rfl (fun ls hl => ?_)
  refine cd_loopR (fun N_ ls_ => ∃ (i : Nat), N_ = n - i ∧ i ≤ n ∧ lv_has ls_ 7 [(0, .ref (a 0)), (1, .int (nI ch)), (2, .int (nI (cd_tf K L R ch i))), (3, .int (nI i))]) ?_ _ ⟨0, rfl, (by omega), lv_sub hl [2, 3, 1, 0] rfl⟩
  intro N4 ls hI4 ih4
  obtain ⟨i, hN4, hi, hl⟩ := hI4
  refine lv_iload_n hx hb dX0_trueFor_4 rfl (lv_at hl 3 rfl) ?_
  refine lv_aload_n hx hb dX0_trueFor_5 rfl (lv_at hl 0 rfl) ?_
  refine gD_count hx hb hts hown hK hP dX0_trueFor_6 ?_
  refine cd_icmp_ge (tgt := 174) (by omega) (by omega) hx hb dX0_trueFor_9 (by decide) (fun c9 => ?_) (fun c9 => ?_)
  · refine lv_iload_n hx hb dX0_trueFor_174 rfl (lv_at hl 2 rfl) ?_
    refine cd_v (y := nI (cd_tf K L R ch n)) (by rw [Nat.le_antisymm hi c9]) ?_
    exact cd_retI hx hb hr hlocks dX0_trueFor_175
  · obtain ⟨w1, w2, w3, w4⟩ := hwf.2 i c9
    refine lv_aload_n hx hb dX0_trueFor_12 rfl (lv_at hl 0 rfl) ?_
    refine lv_iload_n hx hb dX0_trueFor_13 rfl (lv_at hl 2 rfl) ?_
    refine lv_aload_n hx hb dX0_trueFor_14 rfl (lv_at hl 0 rfl) ?_
    refine gD_left hx hb hts hown hK hP dX0_trueFor_15 ?_
    refine lv_iload_n hx hb dX0_trueFor_18 rfl (lv_at hl 3 rfl) ?_
    refine lD_left hx hb hK hP (by omega) dX0_trueFor_19 ?_
    refine cd_callRO ⟨hx, hb, hml, hown, hts⟩ (mD_inN l D a d n K L R kn fd Wl hu Hl (cd_tf K L R ch i) (L i) (by omega)) (kD_in hts ⟨Nat.le_of_ble_eq_true rfl, Nat.le_of_ble_eq_true rfl⟩) rfl rfl rfl hP hK rfl hl.1 rfl (Nat.le_of_ble_eq_true rfl) dX0_trueFor_20 ⟨Nat.zero_le _, Nat.zero_le _⟩ ?_
    refine lv_istore (lv' := [(4, .int (cd_b ((cd_tf K L R ch i).testBit (L i) = true))), (0, .ref (a 0)), (1, .int (nI ch)), (2, .int (nI (cd_tf K L R ch i))), (3, .int (nI i))]) hx hb dX0_trueFor_23 hl (by decide) rfl (fun ls hl => ?_)
    refine lv_aload_n hx hb dX0_trueFor_25 rfl (lv_at hl 1 rfl) ?_
    refine lv_iload_n hx hb dX0_trueFor_26 rfl (lv_at hl 3 rfl) ?_
    refine lv_aload_n hx hb dX0_trueFor_27 rfl (lv_at hl 1 rfl) ?_
    refine gD_right hx hb hts hown hK hP dX0_trueFor_28 ?_
    refine lv_iload_n hx hb dX0_trueFor_31 rfl (lv_at hl 4 rfl) ?_
    refine lD_right hx hb hK hP (by omega) dX0_trueFor_32 ?_
    refine cd_callRO ⟨hx, hb, hml, hown, hts⟩ (mD_inN l D a d n K L R kn fd Wl hu Hl (cd_tf K L R ch i) (R i) (by omega)) (kD_in hts ⟨Nat.le_of_ble_eq_true rfl, Nat.le_of_ble_eq_true rfl⟩) rfl rfl rfl hP hK rfl hl.1 rfl (Nat.le_of_ble_eq_true rfl) dX0_trueFor_33 ⟨Nat.zero_le _, Nat.zero_le _⟩ ?_
    refine lv_istore (lv' := [(5, .int (cd_b ((cd_tf K L R ch i).testBit (R i) = true))), (4, .int (cd_b ((cd_tf K L R ch i).testBit (L i) = true))), (0, .ref (a 0)), (1, .int (nI ch)), (2, .int (nI (cd_tf K L R ch i))), (3, .int (nI i))]) hx hb dX0_trueFor_36 hl (by decide) rfl (fun ls hl => ?_)
    refine lv_iconst (v := nI 0) hx hb dX0_trueFor_38 (by decide) ?_
    refine lv_istore (lv' := [(6, .int (nI 0)), (5, .int (cd_b ((cd_tf K L R ch i).testBit (R i) = true))), (4, .int (cd_b ((cd_tf K L R ch i).testBit (L i) = true))), (0, .ref (a 0)), (1, .int (nI ch)), (2, .int (nI (cd_tf K L R ch i))), (3, .int (nI i))]) hx hb dX0_trueFor_39 hl (by decide) rfl (fun ls hl => ?_)
    refine lv_aload_n hx hb dX0_trueFor_41 rfl (lv_at hl 3 rfl) ?_
    refine gD_kind hx hb hts hown hK hP dX0_trueFor_42 ?_
    refine lv_iload_n hx hb dX0_trueFor_45 rfl (lv_at hl 6 rfl) ?_
    refine lD_kind hx hb hK hP (by omega) dX0_trueFor_46 ?_
    refine lv_iconst (v := nI 3) hx hb dX0_trueFor_47 (by decide) ?_
    refine cd_icmp_ne (tgt := 67) (by omega) (by omega) hx hb dX0_trueFor_48 (by decide) (fun c48 => ?_) (fun c48 => ?_)
    · refine lv_aload_n hx hb dX0_trueFor_67 rfl (lv_at hl 3 rfl) ?_
      refine gD_kind hx hb hts hown hK hP dX0_trueFor_68 ?_
      refine lv_iload_n hx hb dX0_trueFor_71 rfl (lv_at hl 6 rfl) ?_
      refine lD_kind hx hb hK hP (by omega) dX0_trueFor_72 ?_
      refine cd_if_ne (tgt := 96) (by omega) hx hb dX0_trueFor_73 (by decide) (fun c73 => ?_) (fun c73 => ?_)
      · refine lv_aload_n hx hb dX0_trueFor_96 rfl (lv_at hl 3 rfl) ?_
        refine gD_kind hx hb hts hown hK hP dX0_trueFor_97 ?_
        refine lv_iload_n hx hb dX0_trueFor_100 rfl (lv_at hl 6 rfl) ?_
        refine lD_kind hx hb hK hP (by omega) dX0_trueFor_101 ?_
        refine lv_iconst (v := nI 1) hx hb dX0_trueFor_102 (by decide) ?_
        refine cd_icmp_ne (tgt := 126) (by omega) (by omega) hx hb dX0_trueFor_103 (by decide) (fun c103 => ?_) (fun c103 => ?_)
        · refine lv_aload_n hx hb dX0_trueFor_126 rfl (lv_at hl 3 rfl) ?_
          refine gD_kind hx hb hts hown hK hP dX0_trueFor_127 ?_
          refine lv_iload_n hx hb dX0_trueFor_130 rfl (lv_at hl 6 rfl) ?_
          refine lD_kind hx hb hK hP (by omega) dX0_trueFor_131 ?_
          refine lv_iconst (v := nI 2) hx hb dX0_trueFor_132 (by decide) ?_
          refine cd_icmp_ne (tgt := 153) (by omega) (by omega) hx hb dX0_trueFor_133 (by decide) (fun c133 => ?_) (fun c133 => ?_)
          · refine lv_iload hx hb dX0_trueFor_153 (lv_at hl 0 rfl) ?_
            refine lv_if_eq (tgt := 166) hx hb dX0_trueFor_155 (by decide) (fun c155 => ?_) (fun z => absurd z (by decide))
            refine lv_iload_n hx hb dX0_trueFor_166 rfl (lv_at hl 5 rfl) ?_
            refine cd_v (y := nI (cd_tf K L R ch (i + 1))) (congrArg nI (cd_tf_0 (by simp [cd_tg, c9, c48, c73, c103, c133, c155])).symm) ?_
            refine lv_istore_n (lv' := [(2, .int (nI (cd_tf K L R ch (i + 1)))), (6, .int (nI 0)), (5, .int (cd_b ((cd_tf K L R ch i).testBit (R i) = true))), (4, .int (cd_b ((cd_tf K L R ch i).testBit (L i) = true))), (0, .ref (a 0)), (1, .int (nI ch)), (3, .int (nI i))]) hx hb dX0_trueFor_167 rfl hl (by decide) rfl (fun ls hl => ?_)
            refine lv_iinc (v := nI (i + 1)) (lv' := [(3, .int (nI (i + 1))), (2, .int (nI (cd_tf K L R ch (i + 1)))), (6, .int (nI 0)), (5, .int (cd_b ((cd_tf K L R ch i).testBit (R i) = true))), (4, .int (cd_b ((cd_tf K L R ch i).testBit (L i) = true))), (0, .ref (a 0)), (1, .int (nI ch))]) hx hb dX0_trueFor_168 hl (k := 6) rfl (cd_inc _) (by decide) rfl (fun ls hl => ?_)
            refine lv_goto (tgt := 4) hx hb dX0_trueFor_171 (by decide) ?_
            exact ih4 _ _ (by omega) ⟨i + 1, rfl, (by omega), lv_sub hl [5, 6, 1, 0] rfl⟩
          · refine lv_iload hx hb dX0_trueFor_136 (lv_at hl 2 rfl) ?_
            refine cd_ifb_eq (tgt := 146) hx hb dX0_trueFor_138 (by decide) (fun c138 => ?_) (fun c138 => ?_)
            · refine lv_iconst (v := nI 1) hx hb dX0_trueFor_146 (by decide) ?_
              refine lv_goto (tgt := 151) hx hb dX0_trueFor_147 (by decide) ?_
              refine lv_istore (lv' := [(6, .int (nI 1)), (5, .int (cd_b ((cd_tf K L R ch i).testBit (R i) = true))), (4, .int (cd_b ((cd_tf K L R ch i).testBit (L i) = true))), (0, .ref (a 0)), (1, .int (nI ch)), (2, .int (nI (cd_tf K L R ch i))), (3, .int (nI i))]) hx hb dX0_trueFor_151 hl (by decide) rfl (fun ls hl => ?_)
              refine lv_iload hx hb dX0_trueFor_153 (lv_at hl 0 rfl) ?_
              refine lv_if_eq (tgt := 166) hx hb dX0_trueFor_155 (by decide) (fun z => absurd z (by decide)) (fun c155 => ?_)
              refine lv_iload_n hx hb dX0_trueFor_158 rfl (lv_at hl 5 rfl) ?_
              refine lv_iconst (v := nI 1) hx hb dX0_trueFor_159 (by decide) ?_
              refine lv_iload_n hx hb dX0_trueFor_160 rfl (lv_at hl 6 rfl) ?_
              refine lv_ishl hx hb dX0_trueFor_161 ?_
              refine cd_v (y := nI (2 ^ i)) (cd_shl (by omega)) ?_
              refine lv_ior hx hb dX0_trueFor_162 ?_
              refine cd_v (y := nI ((cd_tf K L R ch i) ||| (2 ^ i))) (cd_or _ _) ?_
              refine lv_goto (tgt := 167) hx hb dX0_trueFor_163 (by decide) ?_
              refine cd_v (y := nI (cd_tf K L R ch (i + 1))) (congrArg nI (cd_tf_1 (by simp [cd_tg, c9, c48, c73, c103, c133, c138, c155])).symm) ?_
              refine lv_istore_n (lv' := [(2, .int (nI (cd_tf K L R ch (i + 1)))), (6, .int (nI 1)), (5, .int (cd_b ((cd_tf K L R ch i).testBit (R i) = true))), (4, .int (cd_b ((cd_tf K L R ch i).testBit (L i) = true))), (0, .ref (a 0)), (1, .int (nI ch)), (3, .int (nI i))]) hx hb dX0_trueFor_167 rfl hl (by decide) rfl (fun ls hl => ?_)
              refine lv_iinc (v := nI (i + 1)) (lv' := [(3, .int (nI (i + 1))), (2, .int (nI (cd_tf K L R ch (i + 1)))), (6, .int (nI 1)), (5, .int (cd_b ((cd_tf K L R ch i).testBit (R i) = true))), (4, .int (cd_b ((cd_tf K L R ch i).testBit (L i) = true))), (0, .ref (a 0)), (1, .int (nI ch))]) hx hb dX0_trueFor_168 hl (k := 6) rfl (cd_inc _) (by decide) rfl (fun ls hl => ?_)
              refine lv_goto (tgt := 4) hx hb dX0_trueFor_171 (by decide) ?_
              exact ih4 _ _ (by omega) ⟨i + 1, rfl, (by omega), lv_sub hl [5, 6, 1, 0] rfl⟩
            · refine lv_iload hx hb dX0_trueFor_141 (lv_at hl 1 rfl) ?_
              refine cd_ifb_eq (tgt := 150) hx hb dX0_trueFor_143 (by decide) (fun c143 => ?_) (fun c143 => ?_)
              · refine lv_iconst (v := nI 0) hx hb dX0_trueFor_150 (by decide) ?_
                refine lv_istore (lv' := [(6, .int (nI 0)), (5, .int (cd_b ((cd_tf K L R ch i).testBit (R i) = true))), (4, .int (cd_b ((cd_tf K L R ch i).testBit (L i) = true))), (0, .ref (a 0)), (1, .int (nI ch)), (2, .int (nI (cd_tf K L R ch i))), (3, .int (nI i))]) hx hb dX0_trueFor_151 hl (by decide) rfl (fun ls hl => ?_)
                refine lv_iload hx hb dX0_trueFor_153 (lv_at hl 0 rfl) ?_
                refine lv_if_eq (tgt := 166) hx hb dX0_trueFor_155 (by decide) (fun c155 => ?_) (fun z => absurd z (by decide))
                refine lv_iload_n hx hb dX0_trueFor_166 rfl (lv_at hl 5 rfl) ?_
                refine cd_v (y := nI (cd_tf K L R ch (i + 1))) (congrArg nI (cd_tf_0 (by simp [cd_tg, c9, c48, c73, c103, c133, c138, c143, c155])).symm) ?_
                refine lv_istore_n (lv' := [(2, .int (nI (cd_tf K L R ch (i + 1)))), (6, .int (nI 0)), (5, .int (cd_b ((cd_tf K L R ch i).testBit (R i) = true))), (4, .int (cd_b ((cd_tf K L R ch i).testBit (L i) = true))), (0, .ref (a 0)), (1, .int (nI ch)), (3, .int (nI i))]) hx hb dX0_trueFor_167 rfl hl (by decide) rfl (fun ls hl => ?_)
                refine lv_iinc (v := nI (i + 1)) (lv' := [(3, .int (nI (i + 1))), (2, .int (nI (cd_tf K L R ch (i + 1)))), (6, .int (nI 0)), (5, .int (cd_b ((cd_tf K L R ch i).testBit (R i) = true))), (4, .int (cd_b ((cd_tf K L R ch i).testBit (L i) = true))), (0, .ref (a 0)), (1, .int (nI ch))]) hx hb dX0_trueFor_168 hl (k := 6) rfl (cd_inc _) (by decide) rfl (fun ls hl => ?_)
                refine lv_goto (tgt := 4) hx hb dX0_trueFor_171 (by decide) ?_
                exact ih4 _ _ (by omega) ⟨i + 1, rfl, (by omega), lv_sub hl [5, 6, 1, 0] rfl⟩
              · refine lv_iconst (v := nI 1) hx hb dX0_trueFor_146 (by decide) ?_
                refine lv_goto (tgt := 151) hx hb dX0_trueFor_147 (by decide) ?_
                refine lv_istore (lv' := [(6, .int (nI 1)), (5, .int (cd_b ((cd_tf K L R ch i).testBit (R i) = true))), (4, .int (cd_b ((cd_tf K L R ch i).testBit (L i) = true))), (0, .ref (a 0)), (1, .int (nI ch)), (2, .int (nI (cd_tf K L R ch i))), (3, .int (nI i))]) hx hb dX0_trueFor_151 hl (by decide) rfl (fun ls hl => ?_)
                refine lv_iload hx hb dX0_trueFor_153 (lv_at hl 0 rfl) ?_
                refine lv_if_eq (tgt := 166) hx hb dX0_trueFor_155 (by decide) (fun z => absurd z (by decide)) (fun c155 => ?_)
                refine lv_iload_n hx hb dX0_trueFor_158 rfl (lv_at hl 5 rfl) ?_
                refine lv_iconst (v := nI 1) hx hb dX0_trueFor_159 (by decide) ?_
                refine lv_iload_n hx hb dX0_trueFor_160 rfl (lv_at hl 6 rfl) ?_
                refine lv_ishl hx hb dX0_trueFor_161 ?_
                refine cd_v (y := nI (2 ^ i)) (cd_shl (by omega)) ?_
                refine lv_ior hx hb dX0_trueFor_162 ?_
                refine cd_v (y := nI ((cd_tf K L R ch i) ||| (2 ^ i))) (cd_or _ _) ?_
                refine lv_goto (tgt := 167) hx hb dX0_trueFor_163 (by decide) ?_
                refine cd_v (y := nI (cd_tf K L R ch (i + 1))) (congrArg nI (cd_tf_1 (by simp [cd_tg, c9, c48, c73, c103, c133, c138, c143, c155])).symm) ?_
                refine lv_istore_n (lv' := [(2, .int (nI (cd_tf K L R ch (i + 1)))), (6, .int (nI 1)), (5, .int (cd_b ((cd_tf K L R ch i).testBit (R i) = true))), (4, .int (cd_b ((cd_tf K L R ch i).testBit (L i) = true))), (0, .ref (a 0)), (1, .int (nI ch)), (3, .int (nI i))]) hx hb dX0_trueFor_167 rfl hl (by decide) rfl (fun ls hl => ?_)
                refine lv_iinc (v := nI (i + 1)) (lv' := [(3, .int (nI (i + 1))), (2, .int (nI (cd_tf K L R ch (i + 1)))), (6, .int (nI 1)), (5, .int (cd_b ((cd_tf K L R ch i).testBit (R i) = true))), (4, .int (cd_b ((cd_tf K L R ch i).testBit (L i) = true))), (0, .ref (a 0)), (1, .int (nI ch))]) hx hb dX0_trueFor_168 hl (k := 6) rfl (cd_inc _) (by decide) rfl (fun ls hl => ?_)
                refine lv_goto (tgt := 4) hx hb dX0_trueFor_171 (by decide) ?_
                exact ih4 _ _ (by omega) ⟨i + 1, rfl, (by omega), lv_sub hl [5, 6, 1, 0] rfl⟩
        · refine lv_iload hx hb dX0_trueFor_106 (lv_at hl 2 rfl) ?_
          refine cd_ifb_ne (tgt := 116) hx hb dX0_trueFor_108 (by decide) (fun c108 => ?_) (fun c108 => ?_)
          · refine lv_iconst (v := nI 1) hx hb dX0_trueFor_116 (by decide) ?_
            refine lv_goto (tgt := 121) hx hb dX0_trueFor_117 (by decide) ?_
            refine lv_istore (lv' := [(6, .int (nI 1)), (5, .int (cd_b ((cd_tf K L R ch i).testBit (R i) = true))), (4, .int (cd_b ((cd_tf K L R ch i).testBit (L i) = true))), (0, .ref (a 0)), (1, .int (nI ch)), (2, .int (nI (cd_tf K L R ch i))), (3, .int (nI i))]) hx hb dX0_trueFor_121 hl (by decide) rfl (fun ls hl => ?_)
            refine lv_goto (tgt := 153) hx hb dX0_trueFor_123 (by decide) ?_
            refine lv_iload hx hb dX0_trueFor_153 (lv_at hl 0 rfl) ?_
            refine lv_if_eq (tgt := 166) hx hb dX0_trueFor_155 (by decide) (fun z => absurd z (by decide)) (fun c155 => ?_)
            refine lv_iload_n hx hb dX0_trueFor_158 rfl (lv_at hl 5 rfl) ?_
            refine lv_iconst (v := nI 1) hx hb dX0_trueFor_159 (by decide) ?_
            refine lv_iload_n hx hb dX0_trueFor_160 rfl (lv_at hl 6 rfl) ?_
            refine lv_ishl hx hb dX0_trueFor_161 ?_
            refine cd_v (y := nI (2 ^ i)) (cd_shl (by omega)) ?_
            refine lv_ior hx hb dX0_trueFor_162 ?_
            refine cd_v (y := nI ((cd_tf K L R ch i) ||| (2 ^ i))) (cd_or _ _) ?_
            refine lv_goto (tgt := 167) hx hb dX0_trueFor_163 (by decide) ?_
            refine cd_v (y := nI (cd_tf K L R ch (i + 1))) (congrArg nI (cd_tf_1 (by simp [cd_tg, c9, c48, c73, c103, c108, c155])).symm) ?_
            refine lv_istore_n (lv' := [(2, .int (nI (cd_tf K L R ch (i + 1)))), (6, .int (nI 1)), (5, .int (cd_b ((cd_tf K L R ch i).testBit (R i) = true))), (4, .int (cd_b ((cd_tf K L R ch i).testBit (L i) = true))), (0, .ref (a 0)), (1, .int (nI ch)), (3, .int (nI i))]) hx hb dX0_trueFor_167 rfl hl (by decide) rfl (fun ls hl => ?_)
            refine lv_iinc (v := nI (i + 1)) (lv' := [(3, .int (nI (i + 1))), (2, .int (nI (cd_tf K L R ch (i + 1)))), (6, .int (nI 1)), (5, .int (cd_b ((cd_tf K L R ch i).testBit (R i) = true))), (4, .int (cd_b ((cd_tf K L R ch i).testBit (L i) = true))), (0, .ref (a 0)), (1, .int (nI ch))]) hx hb dX0_trueFor_168 hl (k := 6) rfl (cd_inc _) (by decide) rfl (fun ls hl => ?_)
            refine lv_goto (tgt := 4) hx hb dX0_trueFor_171 (by decide) ?_
            exact ih4 _ _ (by omega) ⟨i + 1, rfl, (by omega), lv_sub hl [5, 6, 1, 0] rfl⟩
          · refine lv_iload hx hb dX0_trueFor_111 (lv_at hl 1 rfl) ?_
            refine cd_ifb_eq (tgt := 120) hx hb dX0_trueFor_113 (by decide) (fun c113 => ?_) (fun c113 => ?_)
            · refine lv_iconst (v := nI 0) hx hb dX0_trueFor_120 (by decide) ?_
              refine lv_istore (lv' := [(6, .int (nI 0)), (5, .int (cd_b ((cd_tf K L R ch i).testBit (R i) = true))), (4, .int (cd_b ((cd_tf K L R ch i).testBit (L i) = true))), (0, .ref (a 0)), (1, .int (nI ch)), (2, .int (nI (cd_tf K L R ch i))), (3, .int (nI i))]) hx hb dX0_trueFor_121 hl (by decide) rfl (fun ls hl => ?_)
              refine lv_goto (tgt := 153) hx hb dX0_trueFor_123 (by decide) ?_
              refine lv_iload hx hb dX0_trueFor_153 (lv_at hl 0 rfl) ?_
              refine lv_if_eq (tgt := 166) hx hb dX0_trueFor_155 (by decide) (fun c155 => ?_) (fun z => absurd z (by decide))
              refine lv_iload_n hx hb dX0_trueFor_166 rfl (lv_at hl 5 rfl) ?_
              refine cd_v (y := nI (cd_tf K L R ch (i + 1))) (congrArg nI (cd_tf_0 (by simp [cd_tg, c9, c48, c73, c103, c108, c113, c155])).symm) ?_
              refine lv_istore_n (lv' := [(2, .int (nI (cd_tf K L R ch (i + 1)))), (6, .int (nI 0)), (5, .int (cd_b ((cd_tf K L R ch i).testBit (R i) = true))), (4, .int (cd_b ((cd_tf K L R ch i).testBit (L i) = true))), (0, .ref (a 0)), (1, .int (nI ch)), (3, .int (nI i))]) hx hb dX0_trueFor_167 rfl hl (by decide) rfl (fun ls hl => ?_)
              refine lv_iinc (v := nI (i + 1)) (lv' := [(3, .int (nI (i + 1))), (2, .int (nI (cd_tf K L R ch (i + 1)))), (6, .int (nI 0)), (5, .int (cd_b ((cd_tf K L R ch i).testBit (R i) = true))), (4, .int (cd_b ((cd_tf K L R ch i).testBit (L i) = true))), (0, .ref (a 0)), (1, .int (nI ch))]) hx hb dX0_trueFor_168 hl (k := 6) rfl (cd_inc _) (by decide) rfl (fun ls hl => ?_)
              refine lv_goto (tgt := 4) hx hb dX0_trueFor_171 (by decide) ?_
              exact ih4 _ _ (by omega) ⟨i + 1, rfl, (by omega), lv_sub hl [5, 6, 1, 0] rfl⟩
            · refine lv_iconst (v := nI 1) hx hb dX0_trueFor_116 (by decide) ?_
              refine lv_goto (tgt := 121) hx hb dX0_trueFor_117 (by decide) ?_
              refine lv_istore (lv' := [(6, .int (nI 1)), (5, .int (cd_b ((cd_tf K L R ch i).testBit (R i) = true))), (4, .int (cd_b ((cd_tf K L R ch i).testBit (L i) = true))), (0, .ref (a 0)), (1, .int (nI ch)), (2, .int (nI (cd_tf K L R ch i))), (3, .int (nI i))]) hx hb dX0_trueFor_121 hl (by decide) rfl (fun ls hl => ?_)
              refine lv_goto (tgt := 153) hx hb dX0_trueFor_123 (by decide) ?_
              refine lv_iload hx hb dX0_trueFor_153 (lv_at hl 0 rfl) ?_
              refine lv_if_eq (tgt := 166) hx hb dX0_trueFor_155 (by decide) (fun z => absurd z (by decide)) (fun c155 => ?_)
              refine lv_iload_n hx hb dX0_trueFor_158 rfl (lv_at hl 5 rfl) ?_
              refine lv_iconst (v := nI 1) hx hb dX0_trueFor_159 (by decide) ?_
              refine lv_iload_n hx hb dX0_trueFor_160 rfl (lv_at hl 6 rfl) ?_
              refine lv_ishl hx hb dX0_trueFor_161 ?_
              refine cd_v (y := nI (2 ^ i)) (cd_shl (by omega)) ?_
              refine lv_ior hx hb dX0_trueFor_162 ?_
              refine cd_v (y := nI ((cd_tf K L R ch i) ||| (2 ^ i))) (cd_or _ _) ?_
              refine lv_goto (tgt := 167) hx hb dX0_trueFor_163 (by decide) ?_
              refine cd_v (y := nI (cd_tf K L R ch (i + 1))) (congrArg nI (cd_tf_1 (by simp [cd_tg, c9, c48, c73, c103, c108, c113, c155])).symm) ?_
              refine lv_istore_n (lv' := [(2, .int (nI (cd_tf K L R ch (i + 1)))), (6, .int (nI 1)), (5, .int (cd_b ((cd_tf K L R ch i).testBit (R i) = true))), (4, .int (cd_b ((cd_tf K L R ch i).testBit (L i) = true))), (0, .ref (a 0)), (1, .int (nI ch)), (3, .int (nI i))]) hx hb dX0_trueFor_167 rfl hl (by decide) rfl (fun ls hl => ?_)
              refine lv_iinc (v := nI (i + 1)) (lv' := [(3, .int (nI (i + 1))), (2, .int (nI (cd_tf K L R ch (i + 1)))), (6, .int (nI 1)), (5, .int (cd_b ((cd_tf K L R ch i).testBit (R i) = true))), (4, .int (cd_b ((cd_tf K L R ch i).testBit (L i) = true))), (0, .ref (a 0)), (1, .int (nI ch))]) hx hb dX0_trueFor_168 hl (k := 6) rfl (cd_inc _) (by decide) rfl (fun ls hl => ?_)
              refine lv_goto (tgt := 4) hx hb dX0_trueFor_171 (by decide) ?_
              exact ih4 _ _ (by omega) ⟨i + 1, rfl, (by omega), lv_sub hl [5, 6, 1, 0] rfl⟩
      · refine lv_iload hx hb dX0_trueFor_76 (lv_at hl 2 rfl) ?_
        refine cd_ifb_eq (tgt := 90) hx hb dX0_trueFor_78 (by decide) (fun c78 => ?_) (fun c78 => ?_)
        · refine lv_iconst (v := nI 0) hx hb dX0_trueFor_90 (by decide) ?_
          refine lv_istore (lv' := [(6, .int (nI 0)), (5, .int (cd_b ((cd_tf K L R ch i).testBit (R i) = true))), (4, .int (cd_b ((cd_tf K L R ch i).testBit (L i) = true))), (0, .ref (a 0)), (1, .int (nI ch)), (2, .int (nI (cd_tf K L R ch i))), (3, .int (nI i))]) hx hb dX0_trueFor_91 hl (by decide) rfl (fun ls hl => ?_)
          refine lv_goto (tgt := 153) hx hb dX0_trueFor_93 (by decide) ?_
          refine lv_iload hx hb dX0_trueFor_153 (lv_at hl 0 rfl) ?_
          refine lv_if_eq (tgt := 166) hx hb dX0_trueFor_155 (by decide) (fun c155 => ?_) (fun z => absurd z (by decide))
          refine lv_iload_n hx hb dX0_trueFor_166 rfl (lv_at hl 5 rfl) ?_
          refine cd_v (y := nI (cd_tf K L R ch (i + 1))) (congrArg nI (cd_tf_0 (by simp [cd_tg, c9, c48, c73, c78, c155])).symm) ?_
          refine lv_istore_n (lv' := [(2, .int (nI (cd_tf K L R ch (i + 1)))), (6, .int (nI 0)), (5, .int (cd_b ((cd_tf K L R ch i).testBit (R i) = true))), (4, .int (cd_b ((cd_tf K L R ch i).testBit (L i) = true))), (0, .ref (a 0)), (1, .int (nI ch)), (3, .int (nI i))]) hx hb dX0_trueFor_167 rfl hl (by decide) rfl (fun ls hl => ?_)
          refine lv_iinc (v := nI (i + 1)) (lv' := [(3, .int (nI (i + 1))), (2, .int (nI (cd_tf K L R ch (i + 1)))), (6, .int (nI 0)), (5, .int (cd_b ((cd_tf K L R ch i).testBit (R i) = true))), (4, .int (cd_b ((cd_tf K L R ch i).testBit (L i) = true))), (0, .ref (a 0)), (1, .int (nI ch))]) hx hb dX0_trueFor_168 hl (k := 6) rfl (cd_inc _) (by decide) rfl (fun ls hl => ?_)
          refine lv_goto (tgt := 4) hx hb dX0_trueFor_171 (by decide) ?_
          exact ih4 _ _ (by omega) ⟨i + 1, rfl, (by omega), lv_sub hl [5, 6, 1, 0] rfl⟩
        · refine lv_iload hx hb dX0_trueFor_81 (lv_at hl 1 rfl) ?_
          refine cd_ifb_eq (tgt := 90) hx hb dX0_trueFor_83 (by decide) (fun c83 => ?_) (fun c83 => ?_)
          · refine lv_iconst (v := nI 0) hx hb dX0_trueFor_90 (by decide) ?_
            refine lv_istore (lv' := [(6, .int (nI 0)), (5, .int (cd_b ((cd_tf K L R ch i).testBit (R i) = true))), (4, .int (cd_b ((cd_tf K L R ch i).testBit (L i) = true))), (0, .ref (a 0)), (1, .int (nI ch)), (2, .int (nI (cd_tf K L R ch i))), (3, .int (nI i))]) hx hb dX0_trueFor_91 hl (by decide) rfl (fun ls hl => ?_)
            refine lv_goto (tgt := 153) hx hb dX0_trueFor_93 (by decide) ?_
            refine lv_iload hx hb dX0_trueFor_153 (lv_at hl 0 rfl) ?_
            refine lv_if_eq (tgt := 166) hx hb dX0_trueFor_155 (by decide) (fun c155 => ?_) (fun z => absurd z (by decide))
            refine lv_iload_n hx hb dX0_trueFor_166 rfl (lv_at hl 5 rfl) ?_
            refine cd_v (y := nI (cd_tf K L R ch (i + 1))) (congrArg nI (cd_tf_0 (by simp [cd_tg, c9, c48, c73, c78, c83, c155])).symm) ?_
            refine lv_istore_n (lv' := [(2, .int (nI (cd_tf K L R ch (i + 1)))), (6, .int (nI 0)), (5, .int (cd_b ((cd_tf K L R ch i).testBit (R i) = true))), (4, .int (cd_b ((cd_tf K L R ch i).testBit (L i) = true))), (0, .ref (a 0)), (1, .int (nI ch)), (3, .int (nI i))]) hx hb dX0_trueFor_167 rfl hl (by decide) rfl (fun ls hl => ?_)
            refine lv_iinc (v := nI (i + 1)) (lv' := [(3, .int (nI (i + 1))), (2, .int (nI (cd_tf K L R ch (i + 1)))), (6, .int (nI 0)), (5, .int (cd_b ((cd_tf K L R ch i).testBit (R i) = true))), (4, .int (cd_b ((cd_tf K L R ch i).testBit (L i) = true))), (0, .ref (a 0)), (1, .int (nI ch))]) hx hb dX0_trueFor_168 hl (k := 6) rfl (cd_inc _) (by decide) rfl (fun ls hl => ?_)
            refine lv_goto (tgt := 4) hx hb dX0_trueFor_171 (by decide) ?_
            exact ih4 _ _ (by omega) ⟨i + 1, rfl, (by omega), lv_sub hl [5, 6, 1, 0] rfl⟩
          · refine lv_iconst (v := nI 1) hx hb dX0_trueFor_86 (by decide) ?_
            refine lv_goto (tgt := 91) hx hb dX0_trueFor_87 (by decide) ?_
            refine lv_istore (lv' := [(6, .int (nI 1)), (5, .int (cd_b ((cd_tf K L R ch i).testBit (R i) = true))), (4, .int (cd_b ((cd_tf K L R ch i).testBit (L i) = true))), (0, .ref (a 0)), (1, .int (nI ch)), (2, .int (nI (cd_tf K L R ch i))), (3, .int (nI i))]) hx hb dX0_trueFor_91 hl (by decide) rfl (fun ls hl => ?_)
            refine lv_goto (tgt := 153) hx hb dX0_trueFor_93 (by decide) ?_
            refine lv_iload hx hb dX0_trueFor_153 (lv_at hl 0 rfl) ?_
            refine lv_if_eq (tgt := 166) hx hb dX0_trueFor_155 (by decide) (fun z => absurd z (by decide)) (fun c155 => ?_)
            refine lv_iload_n hx hb dX0_trueFor_158 rfl (lv_at hl 5 rfl) ?_
            refine lv_iconst (v := nI 1) hx hb dX0_trueFor_159 (by decide) ?_
            refine lv_iload_n hx hb dX0_trueFor_160 rfl (lv_at hl 6 rfl) ?_
            refine lv_ishl hx hb dX0_trueFor_161 ?_
            refine cd_v (y := nI (2 ^ i)) (cd_shl (by omega)) ?_
            refine lv_ior hx hb dX0_trueFor_162 ?_
            refine cd_v (y := nI ((cd_tf K L R ch i) ||| (2 ^ i))) (cd_or _ _) ?_
            refine lv_goto (tgt := 167) hx hb dX0_trueFor_163 (by decide) ?_
            refine cd_v (y := nI (cd_tf K L R ch (i + 1))) (congrArg nI (cd_tf_1 (by simp [cd_tg, c9, c48, c73, c78, c83, c155])).symm) ?_
            refine lv_istore_n (lv' := [(2, .int (nI (cd_tf K L R ch (i + 1)))), (6, .int (nI 1)), (5, .int (cd_b ((cd_tf K L R ch i).testBit (R i) = true))), (4, .int (cd_b ((cd_tf K L R ch i).testBit (L i) = true))), (0, .ref (a 0)), (1, .int (nI ch)), (3, .int (nI i))]) hx hb dX0_trueFor_167 rfl hl (by decide) rfl (fun ls hl => ?_)
            refine lv_iinc (v := nI (i + 1)) (lv' := [(3, .int (nI (i + 1))), (2, .int (nI (cd_tf K L R ch (i + 1)))), (6, .int (nI 1)), (5, .int (cd_b ((cd_tf K L R ch i).testBit (R i) = true))), (4, .int (cd_b ((cd_tf K L R ch i).testBit (L i) = true))), (0, .ref (a 0)), (1, .int (nI ch))]) hx hb dX0_trueFor_168 hl (k := 6) rfl (cd_inc _) (by decide) rfl (fun ls hl => ?_)
            refine lv_goto (tgt := 4) hx hb dX0_trueFor_171 (by decide) ?_
            exact ih4 _ _ (by omega) ⟨i + 1, rfl, (by omega), lv_sub hl [5, 6, 1, 0] rfl⟩
    · refine lv_aload_n hx hb dX0_trueFor_51 rfl (lv_at hl 3 rfl) ?_
      refine lv_iload_n hx hb dX0_trueFor_52 rfl (lv_at hl 4 rfl) ?_
      refine lv_aload_n hx hb dX0_trueFor_53 rfl (lv_at hl 3 rfl) ?_
      refine gD_left hx hb hts hown hK hP dX0_trueFor_54 ?_
      refine lv_iload_n hx hb dX0_trueFor_57 rfl (lv_at hl 6 rfl) ?_
      refine lD_left hx hb hK hP (by omega) dX0_trueFor_58 ?_
      refine cd_callRO ⟨hx, hb, hml, hown, hts⟩ (mD_inN l D a d n K L R kn fd Wl hu Hl ch (L i) (by omega)) (kD_in hts ⟨Nat.le_of_ble_eq_true rfl, Nat.le_of_ble_eq_true rfl⟩) rfl rfl rfl hP hK rfl hl.1 rfl (Nat.le_of_ble_eq_true rfl) dX0_trueFor_59 ⟨Nat.zero_le _, Nat.zero_le _⟩ ?_
      refine lv_istore (lv' := [(6, .int (cd_b (ch.testBit (L i) = true))), (5, .int (cd_b ((cd_tf K L R ch i).testBit (R i) = true))), (4, .int (cd_b ((cd_tf K L R ch i).testBit (L i) = true))), (0, .ref (a 0)), (1, .int (nI ch)), (2, .int (nI (cd_tf K L R ch i))), (3, .int (nI i))]) hx hb dX0_trueFor_62 hl (by decide) rfl (fun ls hl => ?_)
      refine lv_goto (tgt := 153) hx hb dX0_trueFor_64 (by decide) ?_
      refine lv_iload hx hb dX0_trueFor_153 (lv_at hl 0 rfl) ?_
      refine cd_ifb_eq (tgt := 166) hx hb dX0_trueFor_155 (by decide) (fun c155 => ?_) (fun c155 => ?_)
      · refine lv_iload_n hx hb dX0_trueFor_166 rfl (lv_at hl 5 rfl) ?_
        refine cd_v (y := nI (cd_tf K L R ch (i + 1))) (congrArg nI (cd_tf_0 (by simp [cd_tg, c9, c48, c155])).symm) ?_
        refine lv_istore_n (lv' := [(2, .int (nI (cd_tf K L R ch (i + 1)))), (6, .int (cd_b (ch.testBit (L i) = true))), (5, .int (cd_b ((cd_tf K L R ch i).testBit (R i) = true))), (4, .int (cd_b ((cd_tf K L R ch i).testBit (L i) = true))), (0, .ref (a 0)), (1, .int (nI ch)), (3, .int (nI i))]) hx hb dX0_trueFor_167 rfl hl (by decide) rfl (fun ls hl => ?_)
        refine lv_iinc (v := nI (i + 1)) (lv' := [(3, .int (nI (i + 1))), (2, .int (nI (cd_tf K L R ch (i + 1)))), (6, .int (cd_b (ch.testBit (L i) = true))), (5, .int (cd_b ((cd_tf K L R ch i).testBit (R i) = true))), (4, .int (cd_b ((cd_tf K L R ch i).testBit (L i) = true))), (0, .ref (a 0)), (1, .int (nI ch))]) hx hb dX0_trueFor_168 hl (k := 6) rfl (cd_inc _) (by decide) rfl (fun ls hl => ?_)
        refine lv_goto (tgt := 4) hx hb dX0_trueFor_171 (by decide) ?_
        exact ih4 _ _ (by omega) ⟨i + 1, rfl, (by omega), lv_sub hl [5, 6, 1, 0] rfl⟩
      · refine lv_iload_n hx hb dX0_trueFor_158 rfl (lv_at hl 5 rfl) ?_
        refine lv_iconst (v := nI 1) hx hb dX0_trueFor_159 (by decide) ?_
        refine lv_iload_n hx hb dX0_trueFor_160 rfl (lv_at hl 6 rfl) ?_
        refine lv_ishl hx hb dX0_trueFor_161 ?_
        refine cd_v (y := nI (2 ^ i)) (cd_shl (by omega)) ?_
        refine lv_ior hx hb dX0_trueFor_162 ?_
        refine cd_v (y := nI ((cd_tf K L R ch i) ||| (2 ^ i))) (cd_or _ _) ?_
        refine lv_goto (tgt := 167) hx hb dX0_trueFor_163 (by decide) ?_
        refine cd_v (y := nI (cd_tf K L R ch (i + 1))) (congrArg nI (cd_tf_1 (by simp [cd_tg, c9, c48, c155])).symm) ?_
        refine lv_istore_n (lv' := [(2, .int (nI (cd_tf K L R ch (i + 1)))), (6, .int (cd_b (ch.testBit (L i) = true))), (5, .int (cd_b ((cd_tf K L R ch i).testBit (R i) = true))), (4, .int (cd_b ((cd_tf K L R ch i).testBit (L i) = true))), (0, .ref (a 0)), (1, .int (nI ch)), (3, .int (nI i))]) hx hb dX0_trueFor_167 rfl hl (by decide) rfl (fun ls hl => ?_)
        refine lv_iinc (v := nI (i + 1)) (lv' := [(3, .int (nI (i + 1))), (2, .int (nI (cd_tf K L R ch (i + 1)))), (6, .int (cd_b (ch.testBit (L i) = true))), (5, .int (cd_b ((cd_tf K L R ch i).testBit (R i) = true))), (4, .int (cd_b ((cd_tf K L R ch i).testBit (L i) = true))), (0, .ref (a 0)), (1, .int (nI ch))]) hx hb dX0_trueFor_168 hl (k := 6) rfl (cd_inc _) (by decide) rfl (fun ls hl => ?_)
        refine lv_goto (tgt := 4) hx hb dX0_trueFor_171 (by decide) ?_
        exact ih4 _ _ (by omega) ⟨i + 1, rfl, (by omega), lv_sub hl [5, 6, 1, 0] rfl⟩
theorem kD_trueFor {R0 : Room} {s : State} {args : Array Value} (hts : ∀ w ∈ lw_all, w.before args s = true) (h : (cd_rm 1).frames + 1 ≤ R0.frames ∧ 8 + (7 + 11) + (cd_rm 1).locals ≤ R0.locals) : CallW R0 s args RX0 RX0 70 yX0_trueFor cX0_trueFor 7 (some .int) (ws_ yX0_trueFor cX0_trueFor 7 (some .int)) (cd_rm 1) 0 0 1 := cwV 1 hts (lw_V q133 q135 qs9 q25 q136) rfl rfl rfl (by decide +kernel) h
set_option maxHeartbeats 4000000 in
set_option maxRecDepth 100000 in
/-- classically(set, c) -/
theorem mD_classically (l : Launch) (D : va_G) (a : Nat → Nat) (d : Nat → ClassId) (n : Nat) (K : Nat → Nat) (L : Nat → Nat) (R : Nat → Nat) (kn : Prop) (fd : Nat) (Wl : Nat → Nat) (hu : Nat) (Hl : Nat → Nat) (x y : Int32) (hwf : cd_wf n K L R) : cd_RO l yX0_classically (ws_ yX0_classically cX0_classically 7 (some .int)) (cd_rm 2) D (cd_tD d) (cd_wD a d n K L R kn fd Wl hu Hl) [.ref (a 0), .int (x), .int (y)] (cd_gv n y (fun j => cd_b (cd_cy n K L R (cd_mo x n) j))) := by
  refine cd_enterRO (own := RX0) (by decide) rfl (Nat.le_of_ble_eq_true rfl) ?_
  intro p e s m below meth c ls hx hb hr hlocks hml hown hts hK hP hl
  have hl : lv_has ls 7 [(0, .ref (a 0)), (1, .int (x)), (2, .int (y))] := hl
  have hn := hwf.1
  have hp11 := cd_p11 hn
  have hp1 := cd_p1 n
  refine lv_aload_n hx hb dX0_classically_0 rfl (lv_at hl 0 rfl) ?_
  refine lv_iload_n hx hb dX0_classically_1 rfl (lv_at hl 2 rfl) ?_
  refine cd_callRO ⟨hx, hb, hml, hown, hts⟩ (mD_missing l D a d n K L R kn fd Wl hu Hl y) (kD_missing hts ⟨Nat.le_of_ble_eq_true rfl, Nat.le_of_ble_eq_true rfl⟩) rfl rfl rfl hP hK rfl hl.1 rfl (Nat.le_of_ble_eq_true rfl) dX0_classically_2 ⟨Nat.zero_le _, Nat.zero_le _⟩ ?_
  refine cd_ifb_eq (tgt := 10) hx hb dX0_classically_5 (by decide) (fun c5 => ?_) (fun c5 => ?_)
  · obtain ⟨j, hj, rfl⟩ := cd_ix hn c5
    refine lv_iload_n hx hb dX0_classically_10 rfl (lv_at hl 1 rfl) ?_
    refine lv_aload_n hx hb dX0_classically_11 rfl (lv_at hl 0 rfl) ?_
    refine cd_callRO ⟨hx, hb, hml, hown, hts⟩ (mD_every l D a d n K L R kn fd Wl hu Hl hn) (kD_every hts ⟨Nat.le_of_ble_eq_true rfl, Nat.le_of_ble_eq_true rfl⟩) rfl rfl rfl hP hK rfl hl.1 rfl (Nat.le_of_ble_eq_true rfl) dX0_classically_12 ⟨Nat.zero_le _, Nat.zero_le _⟩ ?_
    refine lv_iand hx hb dX0_classically_15 ?_
    refine cd_v (y := nI (cd_mo x n)) (cd_mask _ hn) ?_
    refine lv_istore_n (lv' := [(3, .int (nI (cd_mo x n))), (0, .ref (a 0)), (1, .int (x)), (2, .int (nI j))]) hx hb dX0_classically_16 rfl hl (by decide) rfl (fun ls hl => ?_)
    refine lv_iconst (v := nI 1) hx hb dX0_classically_17 (by decide) ?_
    refine cd_v (y := cd_b (∀ q, q < 0 → cd_sub (cd_mo x n) (cd_tf K L R q n) → (cd_tf K L R q n).testBit j = true)) ((cd_b1 cd_all0).symm) ?_
    refine lv_istore (lv' := [(4, .int (cd_b (∀ q, q < 0 → cd_sub (cd_mo x n) (cd_tf K L R q n) → (cd_tf K L R q n).testBit j = true))), (3, .int (nI (cd_mo x n))), (0, .ref (a 0)), (1, .int (x)), (2, .int (nI j))]) hx hb dX0_classically_18 hl (by decide) rfl (fun ls hl => ?_)
    refine lv_iconst (v := nI 0) hx hb dX0_classically_20 (by decide) ?_
    refine lv_istore (lv' := [(5, .int (nI 0)), (4, .int (cd_b (∀ q, q < 0 → cd_sub (cd_mo x n) (cd_tf K L R q n) → (cd_tf K L R q n).testBit j = true))), (3, .int (nI (cd_mo x n))), (0, .ref (a 0)), (1, .int (x)), (2, .int (nI j))]) hx hb dX0_classically_21 hl (by decide) rfl (fun ls hl => ?_)
    refine cd_loopR (fun N_ ls_ => ∃ (ch : Nat), N_ = 16 - ch ∧ ch ≤ 16 ∧ (lv_has ls_ 7 [(0, .ref (a 0)), (1, .int (x)), (2, .int (nI j)), (3, .int (nI (cd_mo x n))), (4, .int (cd_b (∀ q, q < ch → cd_sub (cd_mo x n) (cd_tf K L R q n) → (cd_tf K L R q n).testBit j = true))), (5, .int (nI ch))])) ?_ _ ⟨0, rfl, (by omega), lv_sub hl [3, 4, 5, 2, 1, 0] rfl⟩
    intro N23 ls hI23 ih23
    obtain ⟨ch, hN23, hch, hl⟩ := hI23
    refine lv_iload hx hb dX0_classically_23 (lv_at hl 5 rfl) ?_
    refine lv_bipush (v := nI 16) hx hb dX0_classically_25 (by decide) ?_
    refine cd_icmp_ge (tgt := 75) (by omega) (by omega) hx hb dX0_classically_27 (by decide) (fun c27 => ?_) (fun c27 => ?_)
    · refine lv_iload hx hb dX0_classically_75 (lv_at hl 4 rfl) ?_
      refine cd_ifb_eq (tgt := 84) hx hb dX0_classically_77 (by decide) (fun c77 => ?_) (fun c77 => ?_)
      · refine lv_iconst (v := nI 0) hx hb dX0_classically_84 (by decide) ?_
        refine cd_v (y := cd_gv n (nI j) (fun j => cd_b (cd_cy n K L R (cd_mo x n) j))) (by rw [cd_gv_in hn hj]; exact (cd_b0 (fun h => c77 (fun q hq => h q (by omega)))).symm) ?_
        exact cd_retI hx hb hr hlocks dX0_classically_85
      · refine lv_iconst (v := nI 1) hx hb dX0_classically_80 (by decide) ?_
        refine lv_goto (tgt := 85) hx hb dX0_classically_81 (by decide) ?_
        refine cd_v (y := cd_gv n (nI j) (fun j => cd_b (cd_cy n K L R (cd_mo x n) j))) (by rw [cd_gv_in hn hj]; exact (cd_b1 (fun q hq => c77 q (by omega))).symm) ?_
        exact cd_retI hx hb hr hlocks dX0_classically_85
    · refine lv_aload_n hx hb dX0_classically_30 rfl (lv_at hl 0 rfl) ?_
      refine lv_iload hx hb dX0_classically_31 (lv_at hl 5 rfl) ?_
      refine cd_callRO ⟨hx, hb, hml, hown, hts⟩ (mD_trueFor l D a d n K L R kn fd Wl hu Hl ch hwf) (kD_trueFor hts ⟨Nat.le_of_ble_eq_true rfl, Nat.le_of_ble_eq_true rfl⟩) rfl rfl rfl hP hK rfl hl.1 rfl (Nat.le_of_ble_eq_true rfl) dX0_classically_33 ⟨Nat.zero_le _, Nat.zero_le _⟩ ?_
      refine lv_istore (lv' := [(6, .int (nI (cd_tf K L R ch n))), (0, .ref (a 0)), (1, .int (x)), (2, .int (nI j)), (3, .int (nI (cd_mo x n))), (4, .int (cd_b (∀ q, q < ch → cd_sub (cd_mo x n) (cd_tf K L R q n) → (cd_tf K L R q n).testBit j = true))), (5, .int (nI ch))]) hx hb dX0_classically_36 hl (by decide) rfl (fun ls hl => ?_)
      refine lv_iload hx hb dX0_classically_38 (lv_at hl 5 rfl) ?_
      refine cd_ifb_eq (tgt := 66) hx hb dX0_classically_40 (by decide) (fun c40 => ?_) (fun c40 => ?_)
      · refine lv_iconst (v := nI 0) hx hb dX0_classically_66 (by decide) ?_
        refine cd_v (y := cd_b (∀ q, q < ch + 1 → cd_sub (cd_mo x n) (cd_tf K L R q n) → (cd_tf K L R q n).testBit j = true)) ((cd_b0 (fun h => c40 (cd_alld h))).symm) ?_
        refine lv_istore (lv' := [(4, .int (cd_b (∀ q, q < ch + 1 → cd_sub (cd_mo x n) (cd_tf K L R q n) → (cd_tf K L R q n).testBit j = true))), (6, .int (nI (cd_tf K L R ch n))), (0, .ref (a 0)), (1, .int (x)), (2, .int (nI j)), (3, .int (nI (cd_mo x n))), (5, .int (nI ch))]) hx hb dX0_classically_67 hl (by decide) rfl (fun ls hl => ?_)
        refine lv_iinc (v := nI (ch + 1)) (lv' := [(5, .int (nI (ch + 1))), (4, .int (cd_b (∀ q, q < ch + 1 → cd_sub (cd_mo x n) (cd_tf K L R q n) → (cd_tf K L R q n).testBit j = true))), (6, .int (nI (cd_tf K L R ch n))), (0, .ref (a 0)), (1, .int (x)), (2, .int (nI j)), (3, .int (nI (cd_mo x n)))]) hx hb dX0_classically_69 hl (k := 6) rfl (cd_inc _) (by decide) rfl (fun ls hl => ?_)
        refine lv_goto (tgt := 23) hx hb dX0_classically_72 (by decide) ?_
        exact ih23 _ _ (by omega) ⟨ch + 1, rfl, (by omega), lv_sub hl [3, 4, 5, 6, 1, 0] rfl⟩
      · refine lv_iload_n hx hb dX0_classically_43 rfl (lv_at hl 4 rfl) ?_
        refine lv_iload hx hb dX0_classically_44 (lv_at hl 0 rfl) ?_
        refine lv_iconst (v := (-1)) hx hb dX0_classically_46 (by decide) ?_
        refine lv_ixor hx hb dX0_classically_47 ?_
        refine lv_iand hx hb dX0_classically_48 ?_
        refine cd_v (y := nI (cd_df (cd_mo x n) (cd_tf K L R ch n))) (cd_andn _ _) ?_
        refine cd_if_ne (tgt := 62) (cd_df31 (cd_mo2048 x hn)) hx hb dX0_classically_49 (by decide) (fun c49 => ?_) (fun c49 => ?_)
        · refine lv_iconst (v := nI 1) hx hb dX0_classically_62 (by decide) ?_
          refine lv_goto (tgt := 67) hx hb dX0_classically_63 (by decide) ?_
          refine cd_v (y := cd_b (∀ q, q < ch + 1 → cd_sub (cd_mo x n) (cd_tf K L R q n) → (cd_tf K L R q n).testBit j = true)) ((cd_b1 (cd_alls c40 (fun h => absurd (cd_df0.mpr h) c49))).symm) ?_
          refine lv_istore (lv' := [(4, .int (cd_b (∀ q, q < ch + 1 → cd_sub (cd_mo x n) (cd_tf K L R q n) → (cd_tf K L R q n).testBit j = true))), (6, .int (nI (cd_tf K L R ch n))), (0, .ref (a 0)), (1, .int (x)), (2, .int (nI j)), (3, .int (nI (cd_mo x n))), (5, .int (nI ch))]) hx hb dX0_classically_67 hl (by decide) rfl (fun ls hl => ?_)
          refine lv_iinc (v := nI (ch + 1)) (lv' := [(5, .int (nI (ch + 1))), (4, .int (cd_b (∀ q, q < ch + 1 → cd_sub (cd_mo x n) (cd_tf K L R q n) → (cd_tf K L R q n).testBit j = true))), (6, .int (nI (cd_tf K L R ch n))), (0, .ref (a 0)), (1, .int (x)), (2, .int (nI j)), (3, .int (nI (cd_mo x n)))]) hx hb dX0_classically_69 hl (k := 6) rfl (cd_inc _) (by decide) rfl (fun ls hl => ?_)
          refine lv_goto (tgt := 23) hx hb dX0_classically_72 (by decide) ?_
          exact ih23 _ _ (by omega) ⟨ch + 1, rfl, (by omega), lv_sub hl [3, 4, 5, 6, 1, 0] rfl⟩
        · refine lv_aload_n hx hb dX0_classically_52 rfl (lv_at hl 1 rfl) ?_
          refine lv_iload hx hb dX0_classically_53 (lv_at hl 0 rfl) ?_
          refine lv_iload_n hx hb dX0_classically_55 rfl (lv_at hl 3 rfl) ?_
          refine cd_callRO ⟨hx, hb, hml, hown, hts⟩ (mD_inN l D a d n K L R kn fd Wl hu Hl (cd_tf K L R ch n) j (by omega)) (kD_in hts ⟨Nat.le_of_ble_eq_true rfl, Nat.le_of_ble_eq_true rfl⟩) rfl rfl rfl hP hK rfl hl.1 rfl (Nat.le_of_ble_eq_true rfl) dX0_classically_56 ⟨Nat.zero_le _, Nat.zero_le _⟩ ?_
          refine cd_ifb_eq (tgt := 66) hx hb dX0_classically_59 (by decide) (fun c59 => ?_) (fun c59 => ?_)
          · refine lv_iconst (v := nI 0) hx hb dX0_classically_66 (by decide) ?_
            refine cd_v (y := cd_b (∀ q, q < ch + 1 → cd_sub (cd_mo x n) (cd_tf K L R q n) → (cd_tf K L R q n).testBit j = true)) ((cd_b0 (cd_alln (P := fun q => cd_sub (cd_mo x n) (cd_tf K L R q n) → (cd_tf K L R q n).testBit j = true) (fun h => c59 (h (cd_df0.mp c49))))).symm) ?_
            refine lv_istore (lv' := [(4, .int (cd_b (∀ q, q < ch + 1 → cd_sub (cd_mo x n) (cd_tf K L R q n) → (cd_tf K L R q n).testBit j = true))), (6, .int (nI (cd_tf K L R ch n))), (0, .ref (a 0)), (1, .int (x)), (2, .int (nI j)), (3, .int (nI (cd_mo x n))), (5, .int (nI ch))]) hx hb dX0_classically_67 hl (by decide) rfl (fun ls hl => ?_)
            refine lv_iinc (v := nI (ch + 1)) (lv' := [(5, .int (nI (ch + 1))), (4, .int (cd_b (∀ q, q < ch + 1 → cd_sub (cd_mo x n) (cd_tf K L R q n) → (cd_tf K L R q n).testBit j = true))), (6, .int (nI (cd_tf K L R ch n))), (0, .ref (a 0)), (1, .int (x)), (2, .int (nI j)), (3, .int (nI (cd_mo x n)))]) hx hb dX0_classically_69 hl (k := 6) rfl (cd_inc _) (by decide) rfl (fun ls hl => ?_)
            refine lv_goto (tgt := 23) hx hb dX0_classically_72 (by decide) ?_
            exact ih23 _ _ (by omega) ⟨ch + 1, rfl, (by omega), lv_sub hl [3, 4, 5, 6, 1, 0] rfl⟩
          · refine lv_iconst (v := nI 1) hx hb dX0_classically_62 (by decide) ?_
            refine lv_goto (tgt := 67) hx hb dX0_classically_63 (by decide) ?_
            refine cd_v (y := cd_b (∀ q, q < ch + 1 → cd_sub (cd_mo x n) (cd_tf K L R q n) → (cd_tf K L R q n).testBit j = true)) ((cd_b1 (cd_alls c40 (fun _ => c59))).symm) ?_
            refine lv_istore (lv' := [(4, .int (cd_b (∀ q, q < ch + 1 → cd_sub (cd_mo x n) (cd_tf K L R q n) → (cd_tf K L R q n).testBit j = true))), (6, .int (nI (cd_tf K L R ch n))), (0, .ref (a 0)), (1, .int (x)), (2, .int (nI j)), (3, .int (nI (cd_mo x n))), (5, .int (nI ch))]) hx hb dX0_classically_67 hl (by decide) rfl (fun ls hl => ?_)
            refine lv_iinc (v := nI (ch + 1)) (lv' := [(5, .int (nI (ch + 1))), (4, .int (cd_b (∀ q, q < ch + 1 → cd_sub (cd_mo x n) (cd_tf K L R q n) → (cd_tf K L R q n).testBit j = true))), (6, .int (nI (cd_tf K L R ch n))), (0, .ref (a 0)), (1, .int (x)), (2, .int (nI j)), (3, .int (nI (cd_mo x n)))]) hx hb dX0_classically_69 hl (k := 6) rfl (cd_inc _) (by decide) rfl (fun ls hl => ?_)
            refine lv_goto (tgt := 23) hx hb dX0_classically_72 (by decide) ?_
            exact ih23 _ _ (by omega) ⟨ch + 1, rfl, (by omega), lv_sub hl [3, 4, 5, 6, 1, 0] rfl⟩
  · refine lv_iconst (v := (-1)) hx hb dX0_classically_8 (by decide) ?_
    refine cd_v (y := cd_gv n y (fun j => cd_b (cd_cy n K L R (cd_mo x n) j))) ((cd_gv_bad c5).symm) ?_
    exact cd_retI hx hb hr hlocks dX0_classically_9
set_option maxHeartbeats 4000000 in
set_option maxRecDepth 100000 in
/-- meetsAll(chosen) -/
theorem mD_meetsAll (l : Launch) (D : va_G) (a : Nat → Nat) (d : Nat → ClassId) (n : Nat) (K : Nat → Nat) (L : Nat → Nat) (R : Nat → Nat) (kn : Prop) (fd : Nat) (Wl : Nat → Nat) (hu : Nat) (Hl : Nat → Nat) (q : Nat) (hq : q < 2048) (hhu : hu ≤ 2048) : cd_RO l yX0_meetsAll (ws_ yX0_meetsAll cX0_meetsAll 4 (some .boolean)) (cd_rm 0) D (cd_tD d) (cd_wD a d n K L R kn fd Wl hu Hl) [.ref (a 0), .int (nI q)] (cd_b (∀ y, y < hu → ¬ Hl y &&& q = 0)) := by
  refine cd_enterRO (own := RX0) (by decide) rfl (Nat.le_of_ble_eq_true rfl) ?_
  intro p e s m below meth c ls hx hb hr hlocks hml hown hts hK hP hl
  have hl : lv_has ls 4 [(0, .ref (a 0)), (1, .int (nI q))] := hl
  refine lv_iconst (v := nI 1) hx hb dX0_meetsAll_0 (by decide) ?_
  refine cd_v (y := cd_b (∀ y, y < 0 → ¬ Hl y &&& q = 0)) ((cd_b1 cd_all0).symm) ?_
  refine lv_istore_n (lv' := [(2, .int (cd_b (∀ y, y < 0 → ¬ Hl y &&& q = 0))), (0, .ref (a 0)), (1, .int (nI q))]) hx hb dX0_meetsAll_1 rfl hl (by decide) rfl (fun ls hl => ?_)
  refine lv_iconst (v := nI 0) hx hb dX0_meetsAll_2 (by decide) ?_
  refine lv_istore_n (lv' := [(3, .int (nI 0)), (2, .int (cd_b (∀ y, y < 0 → ¬ Hl y &&& q = 0))), (0, .ref (a 0)), (1, .int (nI q))]) hx hb dX0_meetsAll_3 rfl hl (by decide) rfl (fun ls hl => ?_)
  refine cd_loopR (fun N_ ls_ => ∃ (i : Nat), N_ = hu - i ∧ i ≤ hu ∧ (lv_has ls_ 4 [(0, .ref (a 0)), (1, .int (nI q)), (2, .int (cd_b (∀ y, y < i → ¬ Hl y &&& q = 0))), (3, .int (nI i))])) ?_ _ ⟨0, rfl, (by omega), lv_sub hl [2, 3, 1, 0] rfl⟩
  intro N4 ls hI4 ih4
  obtain ⟨i, hN4, hi, hl⟩ := hI4
  refine lv_iload_n hx hb dX0_meetsAll_4 rfl (lv_at hl 3 rfl) ?_
  refine lv_aload_n hx hb dX0_meetsAll_5 rfl (lv_at hl 0 rfl) ?_
  refine gD_hurdles hx hb hts hown hK hP dX0_meetsAll_6 ?_
  refine cd_icmp_ge (tgt := 39) (by omega) (by omega) hx hb dX0_meetsAll_9 (by decide) (fun c9 => ?_) (fun c9 => ?_)
  · refine lv_iload_n hx hb dX0_meetsAll_39 rfl (lv_at hl 2 rfl) ?_
    refine cd_v (y := cd_b (∀ y, y < hu → ¬ Hl y &&& q = 0)) (cd_bc (cd_allq hi c9)) ?_
    exact cd_retZ hx hb hr hlocks dX0_meetsAll_40
  · refine lv_iload_n hx hb dX0_meetsAll_12 rfl (lv_at hl 2 rfl) ?_
    refine cd_ifb_eq (tgt := 39) hx hb dX0_meetsAll_13 (by decide) (fun c13 => ?_) (fun c13 => ?_)
    · refine lv_iload_n hx hb dX0_meetsAll_39 rfl (lv_at hl 2 rfl) ?_
      refine cd_v (y := cd_b (∀ y, y < hu → ¬ Hl y &&& q = 0)) (cd_bc (cd_allf hi c13)) ?_
      exact cd_retZ hx hb hr hlocks dX0_meetsAll_40
    · refine lv_aload_n hx hb dX0_meetsAll_16 rfl (lv_at hl 0 rfl) ?_
      refine gD_hurdle hx hb hts hown hK hP dX0_meetsAll_17 ?_
      refine lv_iload_n hx hb dX0_meetsAll_20 rfl (lv_at hl 3 rfl) ?_
      refine lD_hurdle hx hb hK hP (by omega) dX0_meetsAll_21 ?_
      refine lv_iload_n hx hb dX0_meetsAll_22 rfl (lv_at hl 1 rfl) ?_
      refine lv_iand hx hb dX0_meetsAll_23 ?_
      refine cd_v (y := nI ((Hl i) &&& q)) (cd_and _ _) ?_
      refine cd_if_eq (tgt := 31) (cd_and31 hq) hx hb dX0_meetsAll_24 (by decide) (fun c24 => ?_) (fun c24 => ?_)
      · refine lv_iconst (v := nI 0) hx hb dX0_meetsAll_31 (by decide) ?_
        refine cd_v (y := cd_b (∀ y, y < i + 1 → ¬ Hl y &&& q = 0)) ((cd_b0 (fun h => h i (Nat.lt_succ_self i) c24)).symm) ?_
        refine lv_istore_n (lv' := [(2, .int (cd_b (∀ y, y < i + 1 → ¬ Hl y &&& q = 0))), (0, .ref (a 0)), (1, .int (nI q)), (3, .int (nI i))]) hx hb dX0_meetsAll_32 rfl hl (by decide) rfl (fun ls hl => ?_)
        refine lv_iinc (v := nI (i + 1)) (lv' := [(3, .int (nI (i + 1))), (2, .int (cd_b (∀ y, y < i + 1 → ¬ Hl y &&& q = 0))), (0, .ref (a 0)), (1, .int (nI q))]) hx hb dX0_meetsAll_33 hl (k := 3) rfl (cd_inc _) (by decide) rfl (fun ls hl => ?_)
        refine lv_goto (tgt := 4) hx hb dX0_meetsAll_36 (by decide) ?_
        exact ih4 _ _ (by omega) ⟨i + 1, rfl, (by omega), lv_sub hl [2, 3, 1, 0] rfl⟩
      · refine lv_iconst (v := nI 1) hx hb dX0_meetsAll_27 (by decide) ?_
        refine lv_goto (tgt := 32) hx hb dX0_meetsAll_28 (by decide) ?_
        refine cd_v (y := cd_b (∀ y, y < i + 1 → ¬ Hl y &&& q = 0)) ((cd_b1 (cd_alls c13 c24)).symm) ?_
        refine lv_istore_n (lv' := [(2, .int (cd_b (∀ y, y < i + 1 → ¬ Hl y &&& q = 0))), (0, .ref (a 0)), (1, .int (nI q)), (3, .int (nI i))]) hx hb dX0_meetsAll_32 rfl hl (by decide) rfl (fun ls hl => ?_)
        refine lv_iinc (v := nI (i + 1)) (lv' := [(3, .int (nI (i + 1))), (2, .int (cd_b (∀ y, y < i + 1 → ¬ Hl y &&& q = 0))), (0, .ref (a 0)), (1, .int (nI q))]) hx hb dX0_meetsAll_33 hl (k := 3) rfl (cd_inc _) (by decide) rfl (fun ls hl => ?_)
        refine lv_goto (tgt := 4) hx hb dX0_meetsAll_36 (by decide) ?_
        exact ih4 _ _ (by omega) ⟨i + 1, rfl, (by omega), lv_sub hl [2, 3, 1, 0] rfl⟩
theorem kD_meetsAll {R0 : Room} {s : State} {args : Array Value} (hts : ∀ w ∈ lw_all, w.before args s = true) (h : (cd_rm 0).frames + 1 ≤ R0.frames ∧ 8 + (4 + 11) + (cd_rm 0).locals ≤ R0.locals) : CallW R0 s args RX0 RX0 82 yX0_meetsAll cX0_meetsAll 4 (some .boolean) (ws_ yX0_meetsAll cX0_meetsAll 4 (some .boolean)) (cd_rm 0) 0 0 1 := cwV 1 hts (lw_V q153 q155 qs12 q25 q156) rfl rfl rfl (by decide +kernel) h
set_option maxHeartbeats 4000000 in
set_option maxRecDepth 100000 in
/-- sizeOf(set) -/
theorem mD_sizeOf (l : Launch) (D : va_G) (a : Nat → Nat) (d : Nat → ClassId) (n : Nat) (K : Nat → Nat) (L : Nat → Nat) (R : Nat → Nat) (kn : Prop) (fd : Nat) (Wl : Nat → Nat) (hu : Nat) (Hl : Nat → Nat) (q : Nat) (hn : n ≤ 11) : cd_RO l yX0_sizeOf (ws_ yX0_sizeOf cX0_sizeOf 4 (some .int)) (cd_rm 0) D (cd_tD d) (cd_wD a d n K L R kn fd Wl hu Hl) [.ref (a 0), .int (nI q)] (nI (cd_pc q n)) := by
  refine cd_enterRO (own := RX0) (by decide) rfl (Nat.le_of_ble_eq_true rfl) ?_
  intro p e s m below meth c ls hx hb hr hlocks hml hown hts hK hP hl
  have hl : lv_has ls 4 [(0, .ref (a 0)), (1, .int (nI q))] := hl
  refine lv_iconst (v := nI 0) hx hb dX0_sizeOf_0 (by decide) ?_
  refine cd_v (y := nI (cd_pc q 0)) (rfl) ?_
  refine lv_istore_n (lv' := [(2, .int (nI (cd_pc q 0))), (0, .ref (a 0)), (1, .int (nI q))]) hx hb dX0_sizeOf_1 rfl hl (by decide) rfl (fun ls hl => ?_)
  refine lv_iconst (v := nI 0) hx hb dX0_sizeOf_2 (by decide) ?_
  refine lv_istore_n (lv' := [(3, .int (nI 0)), (2, .int (nI (cd_pc q 0))), (0, .ref (a 0)), (1, .int (nI q))]) hx hb dX0_sizeOf_3 rfl hl (by decide) rfl (fun ls hl => ?_)
  refine cd_loopR (fun N_ ls_ => ∃ (i : Nat), N_ = n - i ∧ i ≤ n ∧ lv_has ls_ 4 [(0, .ref (a 0)), (1, .int (nI q)), (2, .int (nI (cd_pc q i))), (3, .int (nI i))]) ?_ _ ⟨0, rfl, (by omega), lv_sub hl [2, 3, 1, 0] rfl⟩
  intro N4 ls hI4 ih4
  obtain ⟨i, hN4, hi, hl⟩ := hI4
  refine lv_iload_n hx hb dX0_sizeOf_4 rfl (lv_at hl 3 rfl) ?_
  refine lv_aload_n hx hb dX0_sizeOf_5 rfl (lv_at hl 0 rfl) ?_
  refine gD_count hx hb hts hown hK hP dX0_sizeOf_6 ?_
  refine cd_icmp_ge (tgt := 26) (by omega) (by omega) hx hb dX0_sizeOf_9 (by decide) (fun c9 => ?_) (fun c9 => ?_)
  · refine lv_iload_n hx hb dX0_sizeOf_26 rfl (lv_at hl 2 rfl) ?_
    refine cd_v (y := nI (cd_pc q n)) (by rw [Nat.le_antisymm hi c9]) ?_
    exact cd_retI hx hb hr hlocks dX0_sizeOf_27
  · refine lv_iload_n hx hb dX0_sizeOf_12 rfl (lv_at hl 2 rfl) ?_
    refine lv_iload_n hx hb dX0_sizeOf_13 rfl (lv_at hl 1 rfl) ?_
    refine lv_iload_n hx hb dX0_sizeOf_14 rfl (lv_at hl 3 rfl) ?_
    refine lv_ishr hx hb dX0_sizeOf_15 ?_
    refine lv_iconst (v := nI 1) hx hb dX0_sizeOf_16 (by decide) ?_
    refine lv_iand hx hb dX0_sizeOf_17 ?_
    refine cd_v (y := nI ((q.testBit i).toNat)) (cd_bitNN (by omega)) ?_
    refine lv_iadd hx hb dX0_sizeOf_18 ?_
    refine cd_v (y := nI (cd_pc q i + ((q.testBit i).toNat))) (nI_add _ _) ?_
    refine cd_v (y := nI (cd_pc q (i + 1))) (rfl) ?_
    refine lv_istore_n (lv' := [(2, .int (nI (cd_pc q (i + 1)))), (0, .ref (a 0)), (1, .int (nI q)), (3, .int (nI i))]) hx hb dX0_sizeOf_19 rfl hl (by decide) rfl (fun ls hl => ?_)
    refine lv_iinc (v := nI (i + 1)) (lv' := [(3, .int (nI (i + 1))), (2, .int (nI (cd_pc q (i + 1)))), (0, .ref (a 0)), (1, .int (nI q))]) hx hb dX0_sizeOf_20 hl (k := 3) rfl (cd_inc _) (by decide) rfl (fun ls hl => ?_)
    refine lv_goto (tgt := 4) hx hb dX0_sizeOf_23 (by decide) ?_
    exact ih4 _ _ (by omega) ⟨i + 1, rfl, (by omega), lv_sub hl [2, 3, 1, 0] rfl⟩
theorem kD_sizeOf {R0 : Room} {s : State} {args : Array Value} (hts : ∀ w ∈ lw_all, w.before args s = true) (h : (cd_rm 0).frames + 1 ≤ R0.frames ∧ 8 + (4 + 11) + (cd_rm 0).locals ≤ R0.locals) : CallW R0 s args RX0 RX0 79 yX0_sizeOf cX0_sizeOf 4 (some .int) (ws_ yX0_sizeOf cX0_sizeOf 4 (some .int)) (cd_rm 0) 0 0 1 := cwV 1 hts (lw_V q149 q151 qs11 q25 q152) rfl rfl rfl (by decide +kernel) h
end
section
set_option maxHeartbeats 4000000 in
set_option maxRecDepth 100000 in
/-- gather(set, c): what has to be met -/
theorem mD_gather (l : Launch) (D : va_G) (a : Nat → Nat) (d : Nat → ClassId) (n : Nat) (K : Nat → Nat) (L : Nat → Nat) (R : Nat → Nat) (kn : Prop) (fd : Nat) (Wl : Nat → Nat) (hu : Nat) (Hl : Nat → Nat) (t k : Nat) (ht : t < 2048) (hk : k < 32) (hfd : fd ≤ 2048) : cd_RW (S := Nat × (Nat → Nat)) l yX0_gather (ws_ yX0_gather cX0_gather 5 (some .boolean)) (cd_rm 1) D (cd_tD d) (cd_wD a d n K L R kn fd Wl hu Hl) [.ref (a 0), .int (nI t), .int (nI k)] (fun r u => r = cd_b (∀ q, q < fd → ¬ (Wl q).testBit k = true → ¬ cd_df t (Wl q) = 0) ∧ cd_GA fd Wl t k u.1 u.2) (fun u => cd_wD a d n K L R kn fd Wl u.1 u.2) := by
  refine cd_enterRW (own := RX0) (by decide) rfl (Nat.le_of_ble_eq_true rfl) ?_
  intro A p e s m below meth c ls hx hb hr hlocks hml hown hts hK hP hl hD hA hS
  have hl : lv_has ls 5 [(0, .ref (a 0)), (1, .int (nI t)), (2, .int (nI k))] := hl
  refine lv_aload_n hx hb dX0_gather_0 rfl (lv_at hl 0 rfl) ?_
  refine lv_iconst (v := nI 0) hx hb dX0_gather_1 (by decide) ?_
  refine sD_hurdles hx hb hts hown hK hP hD hS dX0_gather_2 (fun H locs hP hD hS => ?_)
  refine lv_iconst (v := nI 1) hx hb dX0_gather_5 (by decide) ?_
  refine cd_v (y := cd_b (∀ q, q < 0 → ¬ (Wl q).testBit k = true → ¬ cd_df t (Wl q) = 0)) ((cd_b1 cd_all0).symm) ?_
  refine lv_istore_n (lv' := [(3, .int (cd_b (∀ q, q < 0 → ¬ (Wl q).testBit k = true → ¬ cd_df t (Wl q) = 0))), (0, .ref (a 0)), (1, .int (nI t)), (2, .int (nI k))]) hx hb dX0_gather_6 rfl hl (by decide) rfl (fun ls hl => ?_)
  refine lv_iconst (v := nI 0) hx hb dX0_gather_7 (by decide) ?_
  refine lv_istore (lv' := [(4, .int (nI 0)), (3, .int (cd_b (∀ q, q < 0 → ¬ (Wl q).testBit k = true → ¬ cd_df t (Wl q) = 0))), (0, .ref (a 0)), (1, .int (nI t)), (2, .int (nI k))]) hx hb dX0_gather_8 hl (by decide) rfl (fun ls hl => ?_)
  refine cd_loopW (fun N_ H_ locs_ ls_ => ∃ (w : Nat) (hu1 : Nat) (Hl1 : Nat → Nat), N_ = fd - w ∧ w ≤ fd ∧ cd_GA w Wl t k hu1 Hl1 ∧ va_P D cd_cls (cd_wD a d n K L R kn fd Wl hu1 Hl1) H_ ∧ va_D A (cd_wD a d n K L R kn fd Wl hu1 Hl1) ∧ va_S A s.heap H_ locs_ ∧ (lv_has ls_ 5 [(0, .ref (a 0)), (1, .int (nI t)), (2, .int (nI k)), (3, .int (cd_b (∀ q, q < w → ¬ (Wl q).testBit k = true → ¬ cd_df t (Wl q) = 0))), (4, .int (nI w))])) ?_ _ ⟨0, 0, Hl, rfl, (by omega), cd_GA_0, hP, hD, hS, lv_sub hl [2, 3, 4, 1, 0] rfl⟩
  intro N10 H locs ls hI10 ih10
  obtain ⟨w, hu1, Hl1, hN10, hw, hga, hP, hD, hS, hl⟩ := hI10
  refine lv_iload hx hb dX0_gather_10 (lv_at hl 4 rfl) ?_
  refine lv_aload_n hx hb dX0_gather_12 rfl (lv_at hl 0 rfl) ?_
  refine gD_found hx hb hts hown hK hP dX0_gather_13 ?_
  refine cd_icmp_ge (tgt := 93) (by omega) (by omega) hx hb dX0_gather_16 (by decide) (fun c16 => ?_) (fun c16 => ?_)
  · refine lv_iload_n hx hb dX0_gather_93 rfl (lv_at hl 3 rfl) ?_
    exact cd_retY (hu1, Hl1) hx hb hr hlocks (⟨by rw [Nat.le_antisymm hw c16], by rw [← Nat.le_antisymm hw c16]; exact hga⟩) hP hD hS dX0_gather_94
  · have hgl := hga.2.2
    refine lv_aload_n hx hb dX0_gather_19 rfl (lv_at hl 0 rfl) ?_
    refine lv_aload_n hx hb dX0_gather_20 rfl (lv_at hl 0 rfl) ?_
    refine gD_world hx hb hts hown hK hP dX0_gather_21 ?_
    refine lv_iload hx hb dX0_gather_24 (lv_at hl 4 rfl) ?_
    refine lD_world hx hb hK hP (by omega) dX0_gather_26 ?_
    refine lv_iload_n hx hb dX0_gather_27 rfl (lv_at hl 2 rfl) ?_
    refine cd_callRO ⟨hx, hb, hml, hown, hts⟩ (mD_inN l D a d n K L R kn fd Wl hu1 Hl1 (Wl w) k (by omega)) (kD_in hts ⟨Nat.le_of_ble_eq_true rfl, Nat.le_of_ble_eq_true rfl⟩) rfl rfl rfl hP hK rfl hl.1 rfl (Nat.le_of_ble_eq_true rfl) dX0_gather_28 ⟨Nat.zero_le _, Nat.zero_le _⟩ ?_
    refine cd_ifb_ne (tgt := 87) hx hb dX0_gather_31 (by decide) (fun c31 => ?_) (fun c31 => ?_)
    · rw [cd_bc (cd_alle (P := fun q => ¬ (Wl q).testBit k = true → ¬ cd_df t (Wl q) = 0) (i := w) (fun h => absurd c31 h))] at hl
      refine lv_iinc (v := nI (w + 1)) (lv' := [(4, .int (nI (w + 1))), (0, .ref (a 0)), (1, .int (nI t)), (2, .int (nI k)), (3, .int (cd_b (∀ q, q < w + 1 → ¬ (Wl q).testBit k = true → ¬ cd_df t (Wl q) = 0)))]) hx hb dX0_gather_87 hl (k := 4) rfl (cd_inc _) (by decide) rfl (fun ls hl => ?_)
      refine lv_goto (tgt := 10) hx hb dX0_gather_90 (by decide) ?_
      exact ih10 _ _ _ _ (by omega) ⟨w + 1, hu1, Hl1, rfl, (by omega), cd_GA_2 hga c31, hP, hD, hS, lv_sub hl [1, 2, 3, 4, 0] rfl⟩
    · refine lv_aload_n hx hb dX0_gather_34 rfl (lv_at hl 0 rfl) ?_
      refine gD_hurdle hx hb hts hown hK hP dX0_gather_35 ?_
      refine lv_aload_n hx hb dX0_gather_38 rfl (lv_at hl 0 rfl) ?_
      refine gD_hurdles hx hb hts hown hK hP dX0_gather_39 ?_
      refine lv_iload_n hx hb dX0_gather_42 rfl (lv_at hl 1 rfl) ?_
      refine lv_aload_n hx hb dX0_gather_43 rfl (lv_at hl 0 rfl) ?_
      refine gD_world hx hb hts hown hK hP dX0_gather_44 ?_
      refine lv_iload hx hb dX0_gather_47 (lv_at hl 4 rfl) ?_
      refine lD_world hx hb hK hP (by omega) dX0_gather_49 ?_
      refine lv_iconst (v := (-1)) hx hb dX0_gather_50 (by decide) ?_
      refine lv_ixor hx hb dX0_gather_51 ?_
      refine lv_iand hx hb dX0_gather_52 ?_
      refine cd_v (y := nI (cd_df t (Wl w))) (cd_andn _ _) ?_
      refine lv_i2s (v := nI (cd_df t (Wl w))) hx hb dX0_gather_53 (cd_i2s (cd_df15 ht)) ?_
      refine tD_hurdle hx hb hK hP hD hS (by omega) (cd_df15 ht) dX0_gather_54 (fun H locs hP hD hS => ?_)
      refine lv_iload_n hx hb dX0_gather_55 rfl (lv_at hl 3 rfl) ?_
      refine cd_ifb_eq (tgt := 75) hx hb dX0_gather_56 (by decide) (fun c56 => ?_) (fun c56 => ?_)
      · refine lv_iconst (v := nI 0) hx hb dX0_gather_75 (by decide) ?_
        refine cd_v (y := cd_b (∀ q, q < w + 1 → ¬ (Wl q).testBit k = true → ¬ cd_df t (Wl q) = 0)) ((cd_b0 (fun h => c56 (cd_alld h))).symm) ?_
        refine lv_istore_n (lv' := [(3, .int (cd_b (∀ q, q < w + 1 → ¬ (Wl q).testBit k = true → ¬ cd_df t (Wl q) = 0))), (0, .ref (a 0)), (1, .int (nI t)), (2, .int (nI k)), (4, .int (nI w))]) hx hb dX0_gather_76 rfl hl (by decide) rfl (fun ls hl => ?_)
        refine lv_aload_n hx hb dX0_gather_77 rfl (lv_at hl 1 rfl) ?_
        refine lv_dup hx hb dX0_gather_78 rfl ?_
        refine gD_hurdles hx hb hts hown hK hP dX0_gather_79 ?_
        refine lv_iconst (v := nI 1) hx hb dX0_gather_82 (by decide) ?_
        refine lv_iadd hx hb dX0_gather_83 ?_
        refine cd_v (y := nI (hu1 + 1)) (nI_add _ _) ?_
        refine sD_hurdles hx hb hts hown hK hP hD hS dX0_gather_84 (fun H locs hP hD hS => ?_)
        refine lv_iinc (v := nI (w + 1)) (lv' := [(4, .int (nI (w + 1))), (3, .int (cd_b (∀ q, q < w + 1 → ¬ (Wl q).testBit k = true → ¬ cd_df t (Wl q) = 0))), (0, .ref (a 0)), (1, .int (nI t)), (2, .int (nI k))]) hx hb dX0_gather_87 hl (k := 4) rfl (cd_inc _) (by decide) rfl (fun ls hl => ?_)
        refine lv_goto (tgt := 10) hx hb dX0_gather_90 (by decide) ?_
        exact ih10 _ _ _ _ (by omega) ⟨w + 1, hu1 + 1, cd_up Hl1 hu1 (cd_df t (Wl w)), rfl, (by omega), cd_GA_1 hga c31, hP, hD, hS, lv_sub hl [2, 3, 4, 1, 0] rfl⟩
      · refine lv_aload_n hx hb dX0_gather_59 rfl (lv_at hl 0 rfl) ?_
        refine gD_hurdle hx hb hts hown hK hP dX0_gather_60 ?_
        refine lv_aload_n hx hb dX0_gather_63 rfl (lv_at hl 0 rfl) ?_
        refine gD_hurdles hx hb hts hown hK hP dX0_gather_64 ?_
        refine lD_hurdle hx hb hK hP (by omega) dX0_gather_67 ?_
        refine cd_v (y := nI (cd_df t (Wl w))) (congrArg nI (cd_up_s _ _ _)) ?_
        refine cd_if_eq (tgt := 75) (cd_df31 ht) hx hb dX0_gather_68 (by decide) (fun c68 => ?_) (fun c68 => ?_)
        · refine lv_iconst (v := nI 0) hx hb dX0_gather_75 (by decide) ?_
          refine cd_v (y := cd_b (∀ q, q < w + 1 → ¬ (Wl q).testBit k = true → ¬ cd_df t (Wl q) = 0)) ((cd_b0 (fun h => h w (Nat.lt_succ_self w) c31 c68)).symm) ?_
          refine lv_istore_n (lv' := [(3, .int (cd_b (∀ q, q < w + 1 → ¬ (Wl q).testBit k = true → ¬ cd_df t (Wl q) = 0))), (0, .ref (a 0)), (1, .int (nI t)), (2, .int (nI k)), (4, .int (nI w))]) hx hb dX0_gather_76 rfl hl (by decide) rfl (fun ls hl => ?_)
          refine lv_aload_n hx hb dX0_gather_77 rfl (lv_at hl 1 rfl) ?_
          refine lv_dup hx hb dX0_gather_78 rfl ?_
          refine gD_hurdles hx hb hts hown hK hP dX0_gather_79 ?_
          refine lv_iconst (v := nI 1) hx hb dX0_gather_82 (by decide) ?_
          refine lv_iadd hx hb dX0_gather_83 ?_
          refine cd_v (y := nI (hu1 + 1)) (nI_add _ _) ?_
          refine sD_hurdles hx hb hts hown hK hP hD hS dX0_gather_84 (fun H locs hP hD hS => ?_)
          refine lv_iinc (v := nI (w + 1)) (lv' := [(4, .int (nI (w + 1))), (3, .int (cd_b (∀ q, q < w + 1 → ¬ (Wl q).testBit k = true → ¬ cd_df t (Wl q) = 0))), (0, .ref (a 0)), (1, .int (nI t)), (2, .int (nI k))]) hx hb dX0_gather_87 hl (k := 4) rfl (cd_inc _) (by decide) rfl (fun ls hl => ?_)
          refine lv_goto (tgt := 10) hx hb dX0_gather_90 (by decide) ?_
          exact ih10 _ _ _ _ (by omega) ⟨w + 1, hu1 + 1, cd_up Hl1 hu1 (cd_df t (Wl w)), rfl, (by omega), cd_GA_1 hga c31, hP, hD, hS, lv_sub hl [2, 3, 4, 1, 0] rfl⟩
        · refine lv_iconst (v := nI 1) hx hb dX0_gather_71 (by decide) ?_
          refine lv_goto (tgt := 76) hx hb dX0_gather_72 (by decide) ?_
          refine cd_v (y := cd_b (∀ q, q < w + 1 → ¬ (Wl q).testBit k = true → ¬ cd_df t (Wl q) = 0)) ((cd_b1 (cd_alls c56 (fun _ => c68))).symm) ?_
          refine lv_istore_n (lv' := [(3, .int (cd_b (∀ q, q < w + 1 → ¬ (Wl q).testBit k = true → ¬ cd_df t (Wl q) = 0))), (0, .ref (a 0)), (1, .int (nI t)), (2, .int (nI k)), (4, .int (nI w))]) hx hb dX0_gather_76 rfl hl (by decide) rfl (fun ls hl => ?_)
          refine lv_aload_n hx hb dX0_gather_77 rfl (lv_at hl 1 rfl) ?_
          refine lv_dup hx hb dX0_gather_78 rfl ?_
          refine gD_hurdles hx hb hts hown hK hP dX0_gather_79 ?_
          refine lv_iconst (v := nI 1) hx hb dX0_gather_82 (by decide) ?_
          refine lv_iadd hx hb dX0_gather_83 ?_
          refine cd_v (y := nI (hu1 + 1)) (nI_add _ _) ?_
          refine sD_hurdles hx hb hts hown hK hP hD hS dX0_gather_84 (fun H locs hP hD hS => ?_)
          refine lv_iinc (v := nI (w + 1)) (lv' := [(4, .int (nI (w + 1))), (3, .int (cd_b (∀ q, q < w + 1 → ¬ (Wl q).testBit k = true → ¬ cd_df t (Wl q) = 0))), (0, .ref (a 0)), (1, .int (nI t)), (2, .int (nI k))]) hx hb dX0_gather_87 hl (k := 4) rfl (cd_inc _) (by decide) rfl (fun ls hl => ?_)
          refine lv_goto (tgt := 10) hx hb dX0_gather_90 (by decide) ?_
          exact ih10 _ _ _ _ (by omega) ⟨w + 1, hu1 + 1, cd_up Hl1 hu1 (cd_df t (Wl w)), rfl, (by omega), cd_GA_1 hga c31, hP, hD, hS, lv_sub hl [2, 3, 4, 1, 0] rfl⟩
theorem kD_gather {R0 : Room} {s : State} {args : Array Value} (hts : ∀ w ∈ lw_all, w.before args s = true) (h : (cd_rm 1).frames + 1 ≤ R0.frames ∧ 8 + (5 + 11) + (cd_rm 1).locals ≤ R0.locals) : CallW R0 s args RX0 RX0 76 yX0_gather cX0_gather 5 (some .boolean) (ws_ yX0_gather cX0_gather 5 (some .boolean)) (cd_rm 1) 0 0 2 := cwV 2 hts (lw_V q145 q147 qs10 q25 q148) rfl rfl rfl (by decide +kernel) h
set_option maxHeartbeats 4000000 in
set_option maxRecDepth 100000 in
/-- put(what, a, b) -/
theorem mD_put (l : Launch) (D : va_G) (a : Nat → Nat) (d : Nat → ClassId) (n : Nat) (K : Nat → Nat) (L : Nat → Nat) (R : Nat → Nat) (kn : Prop) (fd : Nat) (Wl : Nat → Nat) (hu : Nat) (Hl : Nat → Nat) (w x y : Nat) (hwf : cd_wf n K L R) (hkw : w < 128) (hkx : x < 128) (hky : y < 128) : cd_RW (S := Nat × (Nat → Nat) × (Nat → Nat) × (Nat → Nat) × Prop) l yX0_put (ws_ yX0_put cX0_put 5 (some .int)) (cd_rm 0) D (cd_tD d) (cd_wD a d n K L R kn fd Wl hu Hl) [.ref (a 0), .int (nI w), .int (nI x), .int (nI y)] (cd_pu n K L R kn w x y) (fun u => cd_wD a d u.1 u.2.1 u.2.2.1 u.2.2.2.1 u.2.2.2.2 fd Wl hu Hl) := by
  refine cd_enterRW (own := RX0) (by decide) rfl (Nat.le_of_ble_eq_true rfl) ?_
  intro A p e s m below meth c ls hx hb hr hlocks hml hown hts hK hP hl hD hA hS
  have hl : lv_has ls 5 [(0, .ref (a 0)), (1, .int (nI w)), (2, .int (nI x)), (3, .int (nI y))] := hl
  have hn := hwf.1
  have hp11 := cd_p11 hn
  have hp1 := cd_p1 n
  refine lv_iconst (v := nI 0) hx hb dX0_put_0 (by decide) ?_
  refine lv_istore (lv' := [(4, .int (nI 0)), (0, .ref (a 0)), (1, .int (nI w)), (2, .int (nI x)), (3, .int (nI y))]) hx hb dX0_put_1 hl (by decide) rfl (fun ls hl => ?_)
  refine cd_loopR (fun N_ ls_ => ∃ (i : Nat), N_ = n - i ∧ i ≤ n ∧ (∀ j, j < i → ¬ cd_mt K L R w x y j) ∧ lv_has ls_ 5 [(0, .ref (a 0)), (1, .int (nI w)), (2, .int (nI x)), (3, .int (nI y)), (4, .int (nI i))]) ?_ _ ⟨0, rfl, (by omega), cd_all0, lv_sub hl [1, 2, 3, 4, 0] rfl⟩
  intro N3 ls hI3 ih3
  obtain ⟨i, hN3, hi, hno, hl⟩ := hI3
  refine lv_iload hx hb dX0_put_3 (lv_at hl 4 rfl) ?_
  refine lv_aload_n hx hb dX0_put_5 rfl (lv_at hl 0 rfl) ?_
  refine gD_count hx hb hts hown hK hP dX0_put_6 ?_
  refine cd_icmp_ge (tgt := 54) (by omega) (by omega) hx hb dX0_put_9 (by decide) (fun c9 => ?_) (fun c9 => ?_)
  · refine lv_aload_n hx hb dX0_put_54 rfl (lv_at hl 0 rfl) ?_
    refine gD_count hx hb hts hown hK hP dX0_put_55 ?_
    refine lv_bipush (v := nI 11) hx hb dX0_put_58 (by decide) ?_
    refine cd_icmp_ne (tgt := 66) (by omega) (by omega) hx hb dX0_put_60 (by decide) (fun c60 => ?_) (fun c60 => ?_)
    · refine lv_aload_n hx hb dX0_put_66 rfl (lv_at hl 0 rfl) ?_
      refine gD_kind hx hb hts hown hK hP dX0_put_67 ?_
      refine lv_aload_n hx hb dX0_put_70 rfl (lv_at hl 0 rfl) ?_
      refine gD_count hx hb hts hown hK hP dX0_put_71 ?_
      refine lv_iload_n hx hb dX0_put_74 rfl (lv_at hl 1 rfl) ?_
      refine lv_i2b (v := nI w) hx hb dX0_put_75 (cd_i2b _ (by omega)) ?_
      refine tD_kind hx hb hK hP hD hS (by omega) (by omega) dX0_put_76 (fun H locs hP hD hS => ?_)
      refine lv_aload_n hx hb dX0_put_77 rfl (lv_at hl 0 rfl) ?_
      refine gD_left hx hb hts hown hK hP dX0_put_78 ?_
      refine lv_aload_n hx hb dX0_put_81 rfl (lv_at hl 0 rfl) ?_
      refine gD_count hx hb hts hown hK hP dX0_put_82 ?_
      refine lv_iload_n hx hb dX0_put_85 rfl (lv_at hl 2 rfl) ?_
      refine lv_i2b (v := nI x) hx hb dX0_put_86 (cd_i2b _ (by omega)) ?_
      refine tD_left hx hb hK hP hD hS (by omega) (by omega) dX0_put_87 (fun H locs hP hD hS => ?_)
      refine lv_aload_n hx hb dX0_put_88 rfl (lv_at hl 0 rfl) ?_
      refine gD_right hx hb hts hown hK hP dX0_put_89 ?_
      refine lv_aload_n hx hb dX0_put_92 rfl (lv_at hl 0 rfl) ?_
      refine gD_count hx hb hts hown hK hP dX0_put_93 ?_
      refine lv_iload_n hx hb dX0_put_96 rfl (lv_at hl 3 rfl) ?_
      refine lv_i2b (v := nI y) hx hb dX0_put_97 (cd_i2b _ (by omega)) ?_
      refine tD_right hx hb hK hP hD hS (by omega) (by omega) dX0_put_98 (fun H locs hP hD hS => ?_)
      refine lv_aload_n hx hb dX0_put_99 rfl (lv_at hl 0 rfl) ?_
      refine lv_dup hx hb dX0_put_100 rfl ?_
      refine gD_count hx hb hts hown hK hP dX0_put_101 ?_
      refine lv_iconst (v := nI 1) hx hb dX0_put_104 (by decide) ?_
      refine lv_iadd hx hb dX0_put_105 ?_
      refine cd_v (y := nI (n + 1)) (nI_add _ _) ?_
      refine sD_count hx hb hts hown hK hP hD hS dX0_put_106 (fun H locs hP hD hS => ?_)
      refine lv_aload_n hx hb dX0_put_109 rfl (lv_at hl 0 rfl) ?_
      refine lv_iconst (v := nI 0) hx hb dX0_put_110 (by decide) ?_
      refine cd_v (y := cd_b False) (cd_b0 (fun h => h)).symm ?_
      refine sD_known hx hb hts hown hK hP hD hS dX0_put_111 (fun H locs hP hD hS => ?_)
      refine lv_aload_n hx hb dX0_put_114 rfl (lv_at hl 0 rfl) ?_
      refine gD_count hx hb hts hown hK hP dX0_put_115 ?_
      refine lv_iconst (v := nI 1) hx hb dX0_put_118 (by decide) ?_
      refine lv_isub hx hb dX0_put_119 ?_
      refine cd_v (y := nI (n + 1 - 1)) (pk_sub (by omega)) ?_
      exact cd_retW (n + 1, cd_up K n w, cd_up L n x, cd_up R n y, False) hx hb hr hlocks (Or.inr (Or.inr ⟨fun j hj => hno j (by omega), by omega, by rw [Nat.add_sub_cancel], rfl⟩)) hP hD hS dX0_put_120
    · refine lv_bipush (v := (-2)) hx hb dX0_put_63 (by decide) ?_
      exact cd_retW (n, K, L, R, kn) hx hb hr hlocks (Or.inr (Or.inl ⟨fun j hj => hno j (by omega), c60, rfl, rfl⟩)) hP hD hS dX0_put_65
  · obtain ⟨w1, w2, w3, w4⟩ := hwf.2 i c9
    refine lv_aload_n hx hb dX0_put_12 rfl (lv_at hl 0 rfl) ?_
    refine gD_kind hx hb hts hown hK hP dX0_put_13 ?_
    refine lv_iload hx hb dX0_put_16 (lv_at hl 4 rfl) ?_
    refine lD_kind hx hb hK hP (by omega) dX0_put_18 ?_
    refine lv_iload_n hx hb dX0_put_19 rfl (lv_at hl 1 rfl) ?_
    refine cd_icmp_ne (tgt := 48) (by omega) (by omega) hx hb dX0_put_20 (by decide) (fun c20 => ?_) (fun c20 => ?_)
    · refine lv_iinc (v := nI (i + 1)) (lv' := [(4, .int (nI (i + 1))), (0, .ref (a 0)), (1, .int (nI w)), (2, .int (nI x)), (3, .int (nI y))]) hx hb dX0_put_48 hl (k := 4) rfl (cd_inc _) (by decide) rfl (fun ls hl => ?_)
      refine lv_goto (tgt := 3) hx hb dX0_put_51 (by decide) ?_
      exact ih3 _ _ (by omega) ⟨i + 1, rfl, (by omega), cd_alls hno (fun h => c20 h.1), lv_sub hl [1, 2, 3, 4, 0] rfl⟩
    · refine lv_aload_n hx hb dX0_put_23 rfl (lv_at hl 0 rfl) ?_
      refine gD_left hx hb hts hown hK hP dX0_put_24 ?_
      refine lv_iload hx hb dX0_put_27 (lv_at hl 4 rfl) ?_
      refine lD_left hx hb hK hP (by omega) dX0_put_29 ?_
      refine lv_iload_n hx hb dX0_put_30 rfl (lv_at hl 2 rfl) ?_
      refine cd_icmp_ne (tgt := 48) (by omega) (by omega) hx hb dX0_put_31 (by decide) (fun c31 => ?_) (fun c31 => ?_)
      · refine lv_iinc (v := nI (i + 1)) (lv' := [(4, .int (nI (i + 1))), (0, .ref (a 0)), (1, .int (nI w)), (2, .int (nI x)), (3, .int (nI y))]) hx hb dX0_put_48 hl (k := 4) rfl (cd_inc _) (by decide) rfl (fun ls hl => ?_)
        refine lv_goto (tgt := 3) hx hb dX0_put_51 (by decide) ?_
        exact ih3 _ _ (by omega) ⟨i + 1, rfl, (by omega), cd_alls hno (fun h => c31 h.2.1), lv_sub hl [1, 2, 3, 4, 0] rfl⟩
      · refine lv_aload_n hx hb dX0_put_34 rfl (lv_at hl 0 rfl) ?_
        refine gD_right hx hb hts hown hK hP dX0_put_35 ?_
        refine lv_iload hx hb dX0_put_38 (lv_at hl 4 rfl) ?_
        refine lD_right hx hb hK hP (by omega) dX0_put_40 ?_
        refine lv_iload_n hx hb dX0_put_41 rfl (lv_at hl 3 rfl) ?_
        refine cd_icmp_ne (tgt := 48) (by omega) (by omega) hx hb dX0_put_42 (by decide) (fun c42 => ?_) (fun c42 => ?_)
        · refine lv_iinc (v := nI (i + 1)) (lv' := [(4, .int (nI (i + 1))), (0, .ref (a 0)), (1, .int (nI w)), (2, .int (nI x)), (3, .int (nI y))]) hx hb dX0_put_48 hl (k := 4) rfl (cd_inc _) (by decide) rfl (fun ls hl => ?_)
          refine lv_goto (tgt := 3) hx hb dX0_put_51 (by decide) ?_
          exact ih3 _ _ (by omega) ⟨i + 1, rfl, (by omega), cd_alls hno (fun h => c42 h.2.2), lv_sub hl [1, 2, 3, 4, 0] rfl⟩
        · refine lv_iload hx hb dX0_put_45 (lv_at hl 4 rfl) ?_
          exact cd_retW (n, K, L, R, kn) hx hb hr hlocks (Or.inl ⟨i, c9, ⟨c20, c31, c42⟩, hno, rfl, rfl⟩) hP hD hS dX0_put_47
theorem kD_put {R0 : Room} {s : State} {args : Array Value} (hts : ∀ w ∈ lw_all, w.before args s = true) (h : (cd_rm 0).frames + 1 ≤ R0.frames ∧ 8 + (5 + 11) + (cd_rm 0).locals ≤ R0.locals) : CallW R0 s args RX0 RX0 34 yX0_put cX0_put 5 (some .int) (ws_ yX0_put cX0_put 5 (some .int)) (cd_rm 0) 0 0 3 := cwV 3 hts (lw_V q69 q71 qs0 q25 q72) rfl rfl rfl (by decide +kernel) h
set_option maxHeartbeats 4000000 in
set_option maxRecDepth 100000 in
/-- atom(a) -/
theorem mD_atom (l : Launch) (D : va_G) (a : Nat → Nat) (d : Nat → ClassId) (n : Nat) (K : Nat → Nat) (L : Nat → Nat) (R : Nat → Nat) (kn : Prop) (fd : Nat) (Wl : Nat → Nat) (hu : Nat) (Hl : Nat → Nat) (x : Int32) (hwf : cd_wf n K L R) : cd_RW (S := Nat × (Nat → Nat) × (Nat → Nat) × (Nat → Nat) × Prop) l yX0_atom (ws_ yX0_atom cX0_atom 2 (some .int)) (cd_rm 1) D (cd_tD d) (cd_wD a d n K L R kn fd Wl hu Hl) [.ref (a 0), .int (x)] (cd_at n K L R kn x) (fun u => cd_wD a d u.1 u.2.1 u.2.2.1 u.2.2.2.1 u.2.2.2.2 fd Wl hu Hl) := by
  refine cd_enterRW (own := RX0) (by decide) rfl (Nat.le_of_ble_eq_true rfl) ?_
  intro A p e s m below meth c ls hx hb hr hlocks hml hown hts hK hP hl hD hA hS
  have hl : lv_has ls 2 [(0, .ref (a 0)), (1, .int (x))] := hl
  have hn := hwf.1
  have hp11 := cd_p11 hn
  have hp1 := cd_p1 n
  refine lv_iload_n hx hb dX0_atom_0 rfl (lv_at hl 1 rfl) ?_
  refine lv_if_lt (tgt := 9) hx hb dX0_atom_1 (by decide) (fun c1 => ?_) (fun c1 => ?_)
  · refine lv_iconst (v := (-1)) hx hb dX0_atom_9 (by decide) ?_
    refine lv_goto (tgt := 20) hx hb dX0_atom_10 (by decide) ?_
    exact cd_retW (n, K, L, R, kn) hx hb hr hlocks (Or.inl ⟨Or.inl c1, rfl, rfl⟩) hP hD hS dX0_atom_20
  · refine lv_iload_n hx hb dX0_atom_4 rfl (lv_at hl 1 rfl) ?_
    refine lv_iconst (v := nI 4) hx hb dX0_atom_5 (by decide) ?_
    refine lv_icmp_lt (tgt := 13) hx hb dX0_atom_6 (by decide) (fun c6 => ?_) (fun c6 => ?_)
    · obtain ⟨k, hk, rfl⟩ := cd_ixl (n := 4) (by decide) c1 c6
      refine lv_aload_n hx hb dX0_atom_13 rfl (lv_at hl 0 rfl) ?_
      refine lv_iconst (v := nI 3) hx hb dX0_atom_14 (by decide) ?_
      refine lv_iload_n hx hb dX0_atom_15 rfl (lv_at hl 1 rfl) ?_
      refine lv_iconst (v := nI 0) hx hb dX0_atom_16 (by decide) ?_
      refine cd_callRW ⟨hx, hb, hml, hown, hts⟩ (mD_put l D a d n K L R kn fd Wl hu Hl 3 k 0 hwf (by omega) (by omega) (by omega)) (kD_put hts ⟨Nat.le_of_ble_eq_true rfl, Nat.le_of_ble_eq_true rfl⟩) rfl rfl rfl hP hK hD hS hA rfl hl.1 rfl (Nat.le_of_ble_eq_true rfl) dX0_atom_17 ⟨Nat.zero_le _, Nat.zero_le _⟩ (fun r17 u17 H locs hu17 hP hD hS => ?_)
      exact cd_retW u17 hx hb hr hlocks (Or.inr ⟨k, hk, rfl, hu17⟩) hP hD hS dX0_atom_20
    · refine lv_iconst (v := (-1)) hx hb dX0_atom_9 (by decide) ?_
      refine lv_goto (tgt := 20) hx hb dX0_atom_10 (by decide) ?_
      exact cd_retW (n, K, L, R, kn) hx hb hr hlocks (Or.inl ⟨Or.inr (Int32.not_lt.mp c6), rfl, rfl⟩) hP hD hS dX0_atom_20
set_option maxHeartbeats 4000000 in
set_option maxRecDepth 100000 in
/-- falsum() -/
theorem mD_falsum (l : Launch) (D : va_G) (a : Nat → Nat) (d : Nat → ClassId) (n : Nat) (K : Nat → Nat) (L : Nat → Nat) (R : Nat → Nat) (kn : Prop) (fd : Nat) (Wl : Nat → Nat) (hu : Nat) (Hl : Nat → Nat) (hwf : cd_wf n K L R) : cd_RW (S := Nat × (Nat → Nat) × (Nat → Nat) × (Nat → Nat) × Prop) l yX0_falsum (ws_ yX0_falsum cX0_falsum 1 (some .int)) (cd_rm 1) D (cd_tD d) (cd_wD a d n K L R kn fd Wl hu Hl) [.ref (a 0)] (cd_pu n K L R kn 4 0 0) (fun u => cd_wD a d u.1 u.2.1 u.2.2.1 u.2.2.2.1 u.2.2.2.2 fd Wl hu Hl) := by
  refine cd_enterRW (own := RX0) (by decide) rfl (Nat.le_of_ble_eq_true rfl) ?_
  intro A p e s m below meth c ls hx hb hr hlocks hml hown hts hK hP hl hD hA hS
  have hl : lv_has ls 1 [(0, .ref (a 0))] := hl
  have hn := hwf.1
  have hp11 := cd_p11 hn
  have hp1 := cd_p1 n
  refine lv_aload_n hx hb dX0_falsum_0 rfl (lv_at hl 0 rfl) ?_
  refine lv_iconst (v := nI 4) hx hb dX0_falsum_1 (by decide) ?_
  refine lv_iconst (v := nI 0) hx hb dX0_falsum_2 (by decide) ?_
  refine lv_iconst (v := nI 0) hx hb dX0_falsum_3 (by decide) ?_
  refine cd_callRW ⟨hx, hb, hml, hown, hts⟩ (mD_put l D a d n K L R kn fd Wl hu Hl 4 0 0 hwf (by omega) (by omega) (by omega)) (kD_put hts ⟨Nat.le_of_ble_eq_true rfl, Nat.le_of_ble_eq_true rfl⟩) rfl rfl rfl hP hK hD hS hA rfl hl.1 rfl (Nat.le_of_ble_eq_true rfl) dX0_falsum_4 ⟨Nat.zero_le _, Nat.zero_le _⟩ (fun r4 u4 H locs hu4 hP hD hS => ?_)
  exact cd_retW u4 hx hb hr hlocks (hu4) hP hD hS dX0_falsum_7
set_option maxHeartbeats 4000000 in
set_option maxRecDepth 100000 in
/-- join(op, i, j) -/
theorem mD_join (l : Launch) (D : va_G) (a : Nat → Nat) (d : Nat → ClassId) (n : Nat) (K : Nat → Nat) (L : Nat → Nat) (R : Nat → Nat) (kn : Prop) (fd : Nat) (Wl : Nat → Nat) (hu : Nat) (Hl : Nat → Nat) (x y z : Int32) (hwf : cd_wf n K L R) : cd_RW (S := Nat × (Nat → Nat) × (Nat → Nat) × (Nat → Nat) × Prop) l yX0_join (ws_ yX0_join cX0_join 4 (some .int)) (cd_rm 1) D (cd_tD d) (cd_wD a d n K L R kn fd Wl hu Hl) [.ref (a 0), .int (x), .int (y), .int (z)] (cd_jo n K L R kn x y z) (fun u => cd_wD a d u.1 u.2.1 u.2.2.1 u.2.2.2.1 u.2.2.2.2 fd Wl hu Hl) := by
  refine cd_enterRW (own := RX0) (by decide) rfl (Nat.le_of_ble_eq_true rfl) ?_
  intro A p e s m below meth c ls hx hb hr hlocks hml hown hts hK hP hl hD hA hS
  have hl : lv_has ls 4 [(0, .ref (a 0)), (1, .int (x)), (2, .int (y)), (3, .int (z))] := hl
  have hn := hwf.1
  have hp11 := cd_p11 hn
  have hp1 := cd_p1 n
  refine lv_iload_n hx hb dX0_join_0 rfl (lv_at hl 1 rfl) ?_
  refine lv_if_lt (tgt := 25) hx hb dX0_join_1 (by decide) (fun c1 => ?_) (fun c1 => ?_)
  · refine lv_iconst (v := (-1)) hx hb dX0_join_25 (by decide) ?_
    refine lv_goto (tgt := 36) hx hb dX0_join_26 (by decide) ?_
    exact cd_retW (n, K, L, R, kn) hx hb hr hlocks (Or.inl ⟨Or.inl (Or.inl c1), rfl, rfl⟩) hP hD hS dX0_join_36
  · refine lv_iload_n hx hb dX0_join_4 rfl (lv_at hl 1 rfl) ?_
    refine lv_iconst (v := nI 2) hx hb dX0_join_5 (by decide) ?_
    refine lv_icmp_gt (tgt := 25) hx hb dX0_join_6 (by decide) (fun c6 => ?_) (fun c6 => ?_)
    · refine lv_iconst (v := (-1)) hx hb dX0_join_25 (by decide) ?_
      refine lv_goto (tgt := 36) hx hb dX0_join_26 (by decide) ?_
      exact cd_retW (n, K, L, R, kn) hx hb hr hlocks (Or.inl ⟨Or.inl (Or.inr c6), rfl, rfl⟩) hP hD hS dX0_join_36
    · refine lv_aload_n hx hb dX0_join_9 rfl (lv_at hl 0 rfl) ?_
      refine lv_iload_n hx hb dX0_join_10 rfl (lv_at hl 2 rfl) ?_
      refine cd_callRO ⟨hx, hb, hml, hown, hts⟩ (mD_missing l D a d n K L R kn fd Wl hu Hl y) (kD_missing hts ⟨Nat.le_of_ble_eq_true rfl, Nat.le_of_ble_eq_true rfl⟩) rfl rfl rfl hP hK rfl hl.1 rfl (Nat.le_of_ble_eq_true rfl) dX0_join_11 ⟨Nat.zero_le _, Nat.zero_le _⟩ ?_
      refine cd_ifb_ne (tgt := 25) hx hb dX0_join_14 (by decide) (fun c14 => ?_) (fun c14 => ?_)
      · refine lv_iconst (v := (-1)) hx hb dX0_join_25 (by decide) ?_
        refine lv_goto (tgt := 36) hx hb dX0_join_26 (by decide) ?_
        exact cd_retW (n, K, L, R, kn) hx hb hr hlocks (Or.inl ⟨Or.inr (Or.inl c14), rfl, rfl⟩) hP hD hS dX0_join_36
      · refine lv_aload_n hx hb dX0_join_17 rfl (lv_at hl 0 rfl) ?_
        refine lv_iload_n hx hb dX0_join_18 rfl (lv_at hl 3 rfl) ?_
        refine cd_callRO ⟨hx, hb, hml, hown, hts⟩ (mD_missing l D a d n K L R kn fd Wl hu Hl z) (kD_missing hts ⟨Nat.le_of_ble_eq_true rfl, Nat.le_of_ble_eq_true rfl⟩) rfl rfl rfl hP hK rfl hl.1 rfl (Nat.le_of_ble_eq_true rfl) dX0_join_19 ⟨Nat.zero_le _, Nat.zero_le _⟩ ?_
        refine cd_ifb_eq (tgt := 29) hx hb dX0_join_22 (by decide) (fun c22 => ?_) (fun c22 => ?_)
        · obtain ⟨k, hk, rfl⟩ := cd_ixg (n := 2) (by decide) c1 c6
          obtain ⟨i, hi, rfl⟩ := cd_ix hn c14
          obtain ⟨j, hj, rfl⟩ := cd_ix hn c22
          refine lv_aload_n hx hb dX0_join_29 rfl (lv_at hl 0 rfl) ?_
          refine lv_iload_n hx hb dX0_join_30 rfl (lv_at hl 1 rfl) ?_
          refine lv_iload_n hx hb dX0_join_31 rfl (lv_at hl 2 rfl) ?_
          refine lv_iload_n hx hb dX0_join_32 rfl (lv_at hl 3 rfl) ?_
          refine cd_callRW ⟨hx, hb, hml, hown, hts⟩ (mD_put l D a d n K L R kn fd Wl hu Hl k i j hwf (by omega) (by omega) (by omega)) (kD_put hts ⟨Nat.le_of_ble_eq_true rfl, Nat.le_of_ble_eq_true rfl⟩) rfl rfl rfl hP hK hD hS hA rfl hl.1 rfl (Nat.le_of_ble_eq_true rfl) dX0_join_33 ⟨Nat.zero_le _, Nat.zero_le _⟩ (fun r33 u33 H locs hu33 hP hD hS => ?_)
          exact cd_retW u33 hx hb hr hlocks (Or.inr ⟨k, i, j, hk, rfl, hi, rfl, hj, rfl, hu33⟩) hP hD hS dX0_join_36
        · refine lv_iconst (v := (-1)) hx hb dX0_join_25 (by decide) ?_
          refine lv_goto (tgt := 36) hx hb dX0_join_26 (by decide) ?_
          exact cd_retW (n, K, L, R, kn) hx hb hr hlocks (Or.inl ⟨Or.inr (Or.inr c22), rfl, rfl⟩) hP hD hS dX0_join_36
set_option maxHeartbeats 4000000 in
set_option maxRecDepth 100000 in
/-- drop() -/
theorem mD_drop (l : Launch) (D : va_G) (a : Nat → Nat) (d : Nat → ClassId) (n : Nat) (K : Nat → Nat) (L : Nat → Nat) (R : Nat → Nat) (kn : Prop) (fd : Nat) (Wl : Nat → Nat) (hu : Nat) (Hl : Nat → Nat) (hn : n ≤ 11) : cd_RW (S := Nat × (Nat → Nat) × (Nat → Nat) × (Nat → Nat) × Prop) l yX0_drop (ws_ yX0_drop cX0_drop 1 (some .int)) (cd_rm 0) D (cd_tD d) (cd_wD a d n K L R kn fd Wl hu Hl) [.ref (a 0)] (cd_dr n K L R kn) (fun u => cd_wD a d u.1 u.2.1 u.2.2.1 u.2.2.2.1 u.2.2.2.2 fd Wl hu Hl) := by
  refine cd_enterRW (own := RX0) (by decide) rfl (Nat.le_of_ble_eq_true rfl) ?_
  intro A p e s m below meth c ls hx hb hr hlocks hml hown hts hK hP hl hD hA hS
  have hl : lv_has ls 1 [(0, .ref (a 0))] := hl
  have hp11 := cd_p11 hn
  have hp1 := cd_p1 n
  refine lv_aload_n hx hb dX0_drop_0 rfl (lv_at hl 0 rfl) ?_
  refine gD_count hx hb hts hown hK hP dX0_drop_1 ?_
  refine cd_if_ne (tgt := 10) (by omega) hx hb dX0_drop_4 (by decide) (fun c4 => ?_) (fun c4 => ?_)
  · refine lv_aload_n hx hb dX0_drop_10 rfl (lv_at hl 0 rfl) ?_
    refine lv_dup hx hb dX0_drop_11 rfl ?_
    refine gD_count hx hb hts hown hK hP dX0_drop_12 ?_
    refine lv_iconst (v := nI 1) hx hb dX0_drop_15 (by decide) ?_
    refine lv_isub hx hb dX0_drop_16 ?_
    refine cd_v (y := nI (n - 1)) (pk_sub (by omega)) ?_
    refine sD_count hx hb hts hown hK hP hD hS dX0_drop_17 (fun H locs hP hD hS => ?_)
    refine lv_aload_n hx hb dX0_drop_20 rfl (lv_at hl 0 rfl) ?_
    refine lv_iconst (v := nI 0) hx hb dX0_drop_21 (by decide) ?_
    refine cd_v (y := cd_b False) (cd_b0 (fun h => h)).symm ?_
    refine sD_known hx hb hts hown hK hP hD hS dX0_drop_22 (fun H locs hP hD hS => ?_)
    refine lv_aload_n hx hb dX0_drop_25 rfl (lv_at hl 0 rfl) ?_
    refine gD_count hx hb hts hown hK hP dX0_drop_26 ?_
    exact cd_retW (n - 1, K, L, R, False) hx hb hr hlocks (Or.inr ⟨by omega, rfl, rfl⟩) hP hD hS dX0_drop_29
  · refine lv_bipush (v := (-4)) hx hb dX0_drop_7 (by decide) ?_
    exact cd_retW (n, K, L, R, kn) hx hb hr hlocks (Or.inl ⟨c4, rfl, rfl⟩) hP hD hS dX0_drop_9
end
section
set_option maxHeartbeats 4000000 in
set_option maxRecDepth 100000 in
/-- follows(set, c) -/
theorem mD_follows (l : Launch) (D : va_G) (a : Nat → Nat) (d : Nat → ClassId) (n : Nat) (K : Nat → Nat) (L : Nat → Nat) (R : Nat → Nat) (kn : Prop) (fd : Nat) (Wl : Nat → Nat) (hu : Nat) (Hl : Nat → Nat) (x y : Int32) (hwf : cd_wf n K L R) (hkw : kn → cd_WL n K L R 0 fd Wl) : cd_RW (S := Prop × Nat × (Nat → Nat) × Nat × (Nat → Nat)) l yX0_follows (ws_ yX0_follows cX0_follows 5 (some .int)) (cd_rm 4) D (cd_tD d) (cd_wD a d n K L R kn fd Wl hu Hl) [.ref (a 0), .int (x), .int (y)] (fun r u => (r = cd_gv n y (fun j => cd_b ((cd_cl n K L R (cd_mo x n)).testBit j = true))) ∧ (u.1 → cd_WL n K L R 0 u.2.1 u.2.2.1)) (fun u => cd_wD a d n K L R u.1 u.2.1 u.2.2.1 u.2.2.2.1 u.2.2.2.2) := by
  refine cd_enterRW (own := RX0) (by decide) rfl (Nat.le_of_ble_eq_true rfl) ?_
  intro A p e s m below meth c ls hx hb hr hlocks hml hown hts hK hP hl hD hA hS
  have hl : lv_has ls 5 [(0, .ref (a 0)), (1, .int (x)), (2, .int (y))] := hl
  have hn := hwf.1
  have hp11 := cd_p11 hn
  have hp1 := cd_p1 n
  refine lv_aload_n hx hb dX0_follows_0 rfl (lv_at hl 0 rfl) ?_
  refine lv_iload_n hx hb dX0_follows_1 rfl (lv_at hl 2 rfl) ?_
  refine cd_callRO ⟨hx, hb, hml, hown, hts⟩ (mD_missing l D a d n K L R kn fd Wl hu Hl y) (kD_missing hts ⟨Nat.le_of_ble_eq_true rfl, Nat.le_of_ble_eq_true rfl⟩) rfl rfl rfl hP hK rfl hl.1 rfl (Nat.le_of_ble_eq_true rfl) dX0_follows_2 ⟨Nat.zero_le _, Nat.zero_le _⟩ ?_
  refine cd_ifb_eq (tgt := 10) hx hb dX0_follows_5 (by decide) (fun c5 => ?_) (fun c5 => ?_)
  · obtain ⟨j, hj, rfl⟩ := cd_ix hn c5
    refine lv_aload_n hx hb dX0_follows_10 rfl (lv_at hl 0 rfl) ?_
    refine cd_callRV ⟨hx, hb, hml, hown, hts⟩ (mD_find l D a d n K L R kn fd Wl hu Hl hwf hkw) (kD_find hts ⟨Nat.le_of_ble_eq_true rfl, Nat.le_of_ble_eq_true rfl⟩) rfl rfl rfl hP hK hD hS hA rfl hl.1 rfl (Nat.le_of_ble_eq_true rfl) dX0_follows_11 ⟨Nat.zero_le _, Nat.zero_le _⟩ (fun u11 H locs hu11 hP hD hS => ?_)
    obtain ⟨kn1, fd1, Wl1⟩ := u11
    obtain ⟨hk1, hW1⟩ := hu11
    have hP : va_P D cd_cls (cd_wD a d n K L R kn1 fd1 Wl1 hu Hl) H := hP
    have hD : va_D A (cd_wD a d n K L R kn1 fd1 Wl1 hu Hl) := hD
    have hW1 : cd_WL n K L R 0 fd1 Wl1 := hW1
    have hfd := cd_WL_fd hn hW1
    refine lv_iload_n hx hb dX0_follows_14 rfl (lv_at hl 1 rfl) ?_
    refine lv_aload_n hx hb dX0_follows_15 rfl (lv_at hl 0 rfl) ?_
    refine cd_callRO ⟨hx, hb, hml, hown, hts⟩ (mD_every l D a d n K L R kn1 fd1 Wl1 hu Hl hn) (kD_every hts ⟨Nat.le_of_ble_eq_true rfl, Nat.le_of_ble_eq_true rfl⟩) rfl rfl rfl hP hK rfl hl.1 rfl (Nat.le_of_ble_eq_true rfl) dX0_follows_16 ⟨Nat.zero_le _, Nat.zero_le _⟩ ?_
    refine lv_iand hx hb dX0_follows_19 ?_
    refine cd_v (y := nI (cd_mo x n)) (cd_mask _ hn) ?_
    refine lv_istore_n (lv' := [(3, .int (nI (cd_mo x n))), (0, .ref (a 0)), (1, .int (x)), (2, .int (nI j))]) hx hb dX0_follows_20 rfl hl (by decide) rfl (fun ls hl => ?_)
    refine lv_aload_n hx hb dX0_follows_21 rfl (lv_at hl 1 rfl) ?_
    refine lv_iload_n hx hb dX0_follows_22 rfl (lv_at hl 0 rfl) ?_
    refine cd_callRO ⟨hx, hb, hml, hown, hts⟩ (mD_closure l D a d n K L R kn1 fd1 Wl1 hu Hl (cd_mo x n) hn (cd_mo2048 x hn) hfd) (kD_closure hts ⟨Nat.le_of_ble_eq_true rfl, Nat.le_of_ble_eq_true rfl⟩) rfl rfl rfl hP hK rfl hl.1 rfl (Nat.le_of_ble_eq_true rfl) dX0_follows_23 ⟨Nat.zero_le _, Nat.zero_le _⟩ ?_
    refine cd_v (y := nI (cd_cl n K L R (cd_mo x n))) (congrArg nI (cd_co_cl hW1 _)) ?_
    refine lv_istore (lv' := [(4, .int (nI (cd_cl n K L R (cd_mo x n)))), (3, .int (nI (cd_mo x n))), (0, .ref (a 0)), (1, .int (x)), (2, .int (nI j))]) hx hb dX0_follows_26 hl (by decide) rfl (fun ls hl => ?_)
    refine lv_iload hx hb dX0_follows_28 (lv_at hl 0 rfl) ?_
    refine lv_iload_n hx hb dX0_follows_30 rfl (lv_at hl 4 rfl) ?_
    refine lv_ishr hx hb dX0_follows_31 ?_
    refine lv_iconst (v := nI 1) hx hb dX0_follows_32 (by decide) ?_
    refine lv_iand hx hb dX0_follows_33 ?_
    refine cd_v (y := nI (((cd_cl n K L R (cd_mo x n)).testBit j).toNat)) (cd_bitNN (by omega)) ?_
    exact cd_retW (kn1, fd1, Wl1, hu, Hl) hx hb hr hlocks (⟨by rw [cd_gv_in hn hj]; exact cd_bN _, fun _ => hW1⟩) hP hD hS dX0_follows_34
  · refine lv_iconst (v := (-1)) hx hb dX0_follows_8 (by decide) ?_
    exact cd_retW (kn, fd, Wl, hu, Hl) hx hb hr hlocks (⟨(cd_gv_bad c5).symm, hkw⟩) hP hD hS dX0_follows_9
set_option maxHeartbeats 4000000 in
set_option maxRecDepth 100000 in
/-- all(set) -/
theorem mD_all (l : Launch) (D : va_G) (a : Nat → Nat) (d : Nat → ClassId) (n : Nat) (K : Nat → Nat) (L : Nat → Nat) (R : Nat → Nat) (kn : Prop) (fd : Nat) (Wl : Nat → Nat) (hu : Nat) (Hl : Nat → Nat) (x : Int32) (hwf : cd_wf n K L R) (hkw : kn → cd_WL n K L R 0 fd Wl) : cd_RW (S := Prop × Nat × (Nat → Nat) × Nat × (Nat → Nat)) l yX0_all (ws_ yX0_all cX0_all 3 (some .int)) (cd_rm 4) D (cd_tD d) (cd_wD a d n K L R kn fd Wl hu Hl) [.ref (a 0), .int (x)] (fun r u => (r = nI (cd_cl n K L R (cd_mo x n))) ∧ (u.1 → cd_WL n K L R 0 u.2.1 u.2.2.1)) (fun u => cd_wD a d n K L R u.1 u.2.1 u.2.2.1 u.2.2.2.1 u.2.2.2.2) := by
  refine cd_enterRW (own := RX0) (by decide) rfl (Nat.le_of_ble_eq_true rfl) ?_
  intro A p e s m below meth c ls hx hb hr hlocks hml hown hts hK hP hl hD hA hS
  have hl : lv_has ls 3 [(0, .ref (a 0)), (1, .int (x))] := hl
  have hn := hwf.1
  have hp11 := cd_p11 hn
  have hp1 := cd_p1 n
  refine lv_aload_n hx hb dX0_all_0 rfl (lv_at hl 0 rfl) ?_
  refine cd_callRV ⟨hx, hb, hml, hown, hts⟩ (mD_find l D a d n K L R kn fd Wl hu Hl hwf hkw) (kD_find hts ⟨Nat.le_of_ble_eq_true rfl, Nat.le_of_ble_eq_true rfl⟩) rfl rfl rfl hP hK hD hS hA rfl hl.1 rfl (Nat.le_of_ble_eq_true rfl) dX0_all_1 ⟨Nat.zero_le _, Nat.zero_le _⟩ (fun u1 H locs hu1 hP hD hS => ?_)
  obtain ⟨kn1, fd1, Wl1⟩ := u1
  obtain ⟨hk1, hW1⟩ := hu1
  have hP : va_P D cd_cls (cd_wD a d n K L R kn1 fd1 Wl1 hu Hl) H := hP
  have hD : va_D A (cd_wD a d n K L R kn1 fd1 Wl1 hu Hl) := hD
  have hW1 : cd_WL n K L R 0 fd1 Wl1 := hW1
  have hfd := cd_WL_fd hn hW1
  refine lv_iload_n hx hb dX0_all_4 rfl (lv_at hl 1 rfl) ?_
  refine lv_aload_n hx hb dX0_all_5 rfl (lv_at hl 0 rfl) ?_
  refine cd_callRO ⟨hx, hb, hml, hown, hts⟩ (mD_every l D a d n K L R kn1 fd1 Wl1 hu Hl hn) (kD_every hts ⟨Nat.le_of_ble_eq_true rfl, Nat.le_of_ble_eq_true rfl⟩) rfl rfl rfl hP hK rfl hl.1 rfl (Nat.le_of_ble_eq_true rfl) dX0_all_6 ⟨Nat.zero_le _, Nat.zero_le _⟩ ?_
  refine lv_iand hx hb dX0_all_9 ?_
  refine cd_v (y := nI (cd_mo x n)) (cd_mask _ hn) ?_
  refine lv_istore_n (lv' := [(2, .int (nI (cd_mo x n))), (0, .ref (a 0)), (1, .int (x))]) hx hb dX0_all_10 rfl hl (by decide) rfl (fun ls hl => ?_)
  refine lv_aload_n hx hb dX0_all_11 rfl (lv_at hl 1 rfl) ?_
  refine lv_iload_n hx hb dX0_all_12 rfl (lv_at hl 0 rfl) ?_
  refine cd_callRO ⟨hx, hb, hml, hown, hts⟩ (mD_closure l D a d n K L R kn1 fd1 Wl1 hu Hl (cd_mo x n) hn (cd_mo2048 x hn) hfd) (kD_closure hts ⟨Nat.le_of_ble_eq_true rfl, Nat.le_of_ble_eq_true rfl⟩) rfl rfl rfl hP hK rfl hl.1 rfl (Nat.le_of_ble_eq_true rfl) dX0_all_13 ⟨Nat.zero_le _, Nat.zero_le _⟩ ?_
  refine cd_v (y := nI (cd_cl n K L R (cd_mo x n))) (congrArg nI (cd_co_cl hW1 _)) ?_
  exact cd_retW (kn1, fd1, Wl1, hu, Hl) hx hb hr hlocks (⟨rfl, fun _ => hW1⟩) hP hD hS dX0_all_16
set_option maxHeartbeats 4000000 in
set_option maxRecDepth 100000 in
/-- alike(i, j) -/
theorem mD_alike (l : Launch) (D : va_G) (a : Nat → Nat) (d : Nat → ClassId) (n : Nat) (K : Nat → Nat) (L : Nat → Nat) (R : Nat → Nat) (kn : Prop) (fd : Nat) (Wl : Nat → Nat) (hu : Nat) (Hl : Nat → Nat) (x y : Int32) (hwf : cd_wf n K L R) (hkw : kn → cd_WL n K L R 0 fd Wl) : cd_RW (S := Prop × Nat × (Nat → Nat) × Nat × (Nat → Nat)) l yX0_alike (ws_ yX0_alike cX0_alike 5 (some .int)) (cd_rm 4) D (cd_tD d) (cd_wD a d n K L R kn fd Wl hu Hl) [.ref (a 0), .int (x), .int (y)] (fun r u => (cd_al n K L R x y r) ∧ (u.1 → cd_WL n K L R 0 u.2.1 u.2.2.1)) (fun u => cd_wD a d n K L R u.1 u.2.1 u.2.2.1 u.2.2.2.1 u.2.2.2.2) := by
  refine cd_enterRW (own := RX0) (by decide) rfl (Nat.le_of_ble_eq_true rfl) ?_
  intro A p e s m below meth c ls hx hb hr hlocks hml hown hts hK hP hl hD hA hS
  have hl : lv_has ls 5 [(0, .ref (a 0)), (1, .int (x)), (2, .int (y))] := hl
  have hn := hwf.1
  have hp11 := cd_p11 hn
  have hp1 := cd_p1 n
  refine lv_aload_n hx hb dX0_alike_0 rfl (lv_at hl 0 rfl) ?_
  refine lv_iload_n hx hb dX0_alike_1 rfl (lv_at hl 1 rfl) ?_
  refine cd_callRO ⟨hx, hb, hml, hown, hts⟩ (mD_missing l D a d n K L R kn fd Wl hu Hl x) (kD_missing hts ⟨Nat.le_of_ble_eq_true rfl, Nat.le_of_ble_eq_true rfl⟩) rfl rfl rfl hP hK rfl hl.1 rfl (Nat.le_of_ble_eq_true rfl) dX0_alike_2 ⟨Nat.zero_le _, Nat.zero_le _⟩ ?_
  refine cd_ifb_ne (tgt := 16) hx hb dX0_alike_5 (by decide) (fun c5 => ?_) (fun c5 => ?_)
  · refine lv_iconst (v := (-1)) hx hb dX0_alike_16 (by decide) ?_
    exact cd_retW (kn, fd, Wl, hu, Hl) hx hb hr hlocks (⟨Or.inl ⟨Or.inl c5, rfl⟩, hkw⟩) hP hD hS dX0_alike_17
  · refine lv_aload_n hx hb dX0_alike_8 rfl (lv_at hl 0 rfl) ?_
    refine lv_iload_n hx hb dX0_alike_9 rfl (lv_at hl 2 rfl) ?_
    refine cd_callRO ⟨hx, hb, hml, hown, hts⟩ (mD_missing l D a d n K L R kn fd Wl hu Hl y) (kD_missing hts ⟨Nat.le_of_ble_eq_true rfl, Nat.le_of_ble_eq_true rfl⟩) rfl rfl rfl hP hK rfl hl.1 rfl (Nat.le_of_ble_eq_true rfl) dX0_alike_10 ⟨Nat.zero_le _, Nat.zero_le _⟩ ?_
    refine cd_ifb_eq (tgt := 18) hx hb dX0_alike_13 (by decide) (fun c13 => ?_) (fun c13 => ?_)
    · obtain ⟨i, hi, rfl⟩ := cd_ix hn c5
      obtain ⟨j, hj, rfl⟩ := cd_ix hn c13
      refine lv_aload_n hx hb dX0_alike_18 rfl (lv_at hl 0 rfl) ?_
      refine cd_callRV ⟨hx, hb, hml, hown, hts⟩ (mD_find l D a d n K L R kn fd Wl hu Hl hwf hkw) (kD_find hts ⟨Nat.le_of_ble_eq_true rfl, Nat.le_of_ble_eq_true rfl⟩) rfl rfl rfl hP hK hD hS hA rfl hl.1 rfl (Nat.le_of_ble_eq_true rfl) dX0_alike_19 ⟨Nat.zero_le _, Nat.zero_le _⟩ (fun u19 H locs hu19 hP hD hS => ?_)
      obtain ⟨kn1, fd1, Wl1⟩ := u19
      obtain ⟨hk1, hW1⟩ := hu19
      have hP : va_P D cd_cls (cd_wD a d n K L R kn1 fd1 Wl1 hu Hl) H := hP
      have hD : va_D A (cd_wD a d n K L R kn1 fd1 Wl1 hu Hl) := hD
      have hW1 : cd_WL n K L R 0 fd1 Wl1 := hW1
      have hfd := cd_WL_fd hn hW1
      refine lv_iconst (v := nI 1) hx hb dX0_alike_22 (by decide) ?_
      refine cd_v (y := cd_b (∀ q, q < 0 → ((Wl1 q).testBit i = true ↔ (Wl1 q).testBit j = true))) ((cd_b1 cd_all0).symm) ?_
      refine lv_istore_n (lv' := [(3, .int (cd_b (∀ q, q < 0 → ((Wl1 q).testBit i = true ↔ (Wl1 q).testBit j = true)))), (0, .ref (a 0)), (1, .int (nI i)), (2, .int (nI j))]) hx hb dX0_alike_23 rfl hl (by decide) rfl (fun ls hl => ?_)
      refine lv_iconst (v := nI 0) hx hb dX0_alike_24 (by decide) ?_
      refine lv_istore (lv' := [(4, .int (nI 0)), (3, .int (cd_b (∀ q, q < 0 → ((Wl1 q).testBit i = true ↔ (Wl1 q).testBit j = true)))), (0, .ref (a 0)), (1, .int (nI i)), (2, .int (nI j))]) hx hb dX0_alike_25 hl (by decide) rfl (fun ls hl => ?_)
      refine cd_loopR (fun N_ ls_ => ∃ (w : Nat), N_ = fd1 - w ∧ w ≤ fd1 ∧ (lv_has ls_ 5 [(0, .ref (a 0)), (1, .int (nI i)), (2, .int (nI j)), (3, .int (cd_b (∀ q, q < w → ((Wl1 q).testBit i = true ↔ (Wl1 q).testBit j = true)))), (4, .int (nI w))])) ?_ _ ⟨0, rfl, (by omega), lv_sub hl [2, 3, 4, 1, 0] rfl⟩
      intro N27 ls hI27 ih27
      obtain ⟨w, hN27, hw, hl⟩ := hI27
      refine lv_iload hx hb dX0_alike_27 (lv_at hl 4 rfl) ?_
      refine lv_aload_n hx hb dX0_alike_29 rfl (lv_at hl 0 rfl) ?_
      refine gD_found hx hb hts hown hK hP dX0_alike_30 ?_
      refine cd_icmp_ge (tgt := 79) (by omega) (by omega) hx hb dX0_alike_33 (by decide) (fun c33 => ?_) (fun c33 => ?_)
      · refine lv_iload_n hx hb dX0_alike_79 rfl (lv_at hl 3 rfl) ?_
        refine cd_ifb_eq (tgt := 87) hx hb dX0_alike_80 (by decide) (fun c80 => ?_) (fun c80 => ?_)
        · refine lv_iconst (v := nI 0) hx hb dX0_alike_87 (by decide) ?_
          exact cd_retW (kn1, fd1, Wl1, hu, Hl) hx hb hr hlocks (⟨Or.inr ⟨i, j, hi, hj, rfl, rfl, (cd_b0 (fun h => c80 (fun q hq => (cd_WL_all hW1 (P := fun v => (v.testBit i = true ↔ v.testBit j = true))).mpr h q (by omega)))).symm⟩, fun _ => hW1⟩) hP hD hS dX0_alike_88
        · refine lv_iconst (v := nI 1) hx hb dX0_alike_83 (by decide) ?_
          refine lv_goto (tgt := 88) hx hb dX0_alike_84 (by decide) ?_
          exact cd_retW (kn1, fd1, Wl1, hu, Hl) hx hb hr hlocks (⟨Or.inr ⟨i, j, hi, hj, rfl, rfl, (cd_b1 ((cd_WL_all hW1 (P := fun v => (v.testBit i = true ↔ v.testBit j = true))).mp (fun q hq => c80 q (by omega)))).symm⟩, fun _ => hW1⟩) hP hD hS dX0_alike_88
      · refine lv_iload_n hx hb dX0_alike_36 rfl (lv_at hl 3 rfl) ?_
        refine cd_ifb_eq (tgt := 71) hx hb dX0_alike_37 (by decide) (fun c37 => ?_) (fun c37 => ?_)
        · refine lv_iconst (v := nI 0) hx hb dX0_alike_71 (by decide) ?_
          refine cd_v (y := cd_b (∀ q, q < w + 1 → ((Wl1 q).testBit i = true ↔ (Wl1 q).testBit j = true))) ((cd_b0 (fun h => c37 (cd_alld h))).symm) ?_
          refine lv_istore_n (lv' := [(3, .int (cd_b (∀ q, q < w + 1 → ((Wl1 q).testBit i = true ↔ (Wl1 q).testBit j = true)))), (0, .ref (a 0)), (1, .int (nI i)), (2, .int (nI j)), (4, .int (nI w))]) hx hb dX0_alike_72 rfl hl (by decide) rfl (fun ls hl => ?_)
          refine lv_iinc (v := nI (w + 1)) (lv' := [(4, .int (nI (w + 1))), (3, .int (cd_b (∀ q, q < w + 1 → ((Wl1 q).testBit i = true ↔ (Wl1 q).testBit j = true)))), (0, .ref (a 0)), (1, .int (nI i)), (2, .int (nI j))]) hx hb dX0_alike_73 hl (k := 4) rfl (cd_inc _) (by decide) rfl (fun ls hl => ?_)
          refine lv_goto (tgt := 27) hx hb dX0_alike_76 (by decide) ?_
          exact ih27 _ _ (by omega) ⟨w + 1, rfl, (by omega), lv_sub hl [2, 3, 4, 1, 0] rfl⟩
        · refine lv_aload_n hx hb dX0_alike_40 rfl (lv_at hl 0 rfl) ?_
          refine lv_aload_n hx hb dX0_alike_41 rfl (lv_at hl 0 rfl) ?_
          refine gD_world hx hb hts hown hK hP dX0_alike_42 ?_
          refine lv_iload hx hb dX0_alike_45 (lv_at hl 4 rfl) ?_
          refine lD_world hx hb hK hP (by omega) dX0_alike_47 ?_
          refine lv_iload_n hx hb dX0_alike_48 rfl (lv_at hl 1 rfl) ?_
          refine cd_callRO ⟨hx, hb, hml, hown, hts⟩ (mD_inN l D a d n K L R kn1 fd1 Wl1 hu Hl (Wl1 w) i (by omega)) (kD_in hts ⟨Nat.le_of_ble_eq_true rfl, Nat.le_of_ble_eq_true rfl⟩) rfl rfl rfl hP hK rfl hl.1 rfl (Nat.le_of_ble_eq_true rfl) dX0_alike_49 ⟨Nat.zero_le _, Nat.zero_le _⟩ ?_
          refine lv_aload_n hx hb dX0_alike_52 rfl (lv_at hl 0 rfl) ?_
          refine lv_aload_n hx hb dX0_alike_53 rfl (lv_at hl 0 rfl) ?_
          refine gD_world hx hb hts hown hK hP dX0_alike_54 ?_
          refine lv_iload hx hb dX0_alike_57 (lv_at hl 4 rfl) ?_
          refine lD_world hx hb hK hP (by omega) dX0_alike_59 ?_
          refine lv_iload_n hx hb dX0_alike_60 rfl (lv_at hl 2 rfl) ?_
          refine cd_callRO ⟨hx, hb, hml, hown, hts⟩ (mD_inN l D a d n K L R kn1 fd1 Wl1 hu Hl (Wl1 w) j (by omega)) (kD_in hts ⟨Nat.le_of_ble_eq_true rfl, Nat.le_of_ble_eq_true rfl⟩) rfl rfl rfl hP hK rfl hl.1 rfl (Nat.le_of_ble_eq_true rfl) dX0_alike_61 ⟨Nat.zero_le _, Nat.zero_le _⟩ ?_
          refine cd_icmpb_ne (tgt := 71) hx hb dX0_alike_64 (by decide) (fun c64 => ?_) (fun c64 => ?_)
          · refine lv_iconst (v := nI 0) hx hb dX0_alike_71 (by decide) ?_
            refine cd_v (y := cd_b (∀ q, q < w + 1 → ((Wl1 q).testBit i = true ↔ (Wl1 q).testBit j = true))) ((cd_b0 (fun h => c64 (h w (Nat.lt_succ_self w)))).symm) ?_
            refine lv_istore_n (lv' := [(3, .int (cd_b (∀ q, q < w + 1 → ((Wl1 q).testBit i = true ↔ (Wl1 q).testBit j = true)))), (0, .ref (a 0)), (1, .int (nI i)), (2, .int (nI j)), (4, .int (nI w))]) hx hb dX0_alike_72 rfl hl (by decide) rfl (fun ls hl => ?_)
            refine lv_iinc (v := nI (w + 1)) (lv' := [(4, .int (nI (w + 1))), (3, .int (cd_b (∀ q, q < w + 1 → ((Wl1 q).testBit i = true ↔ (Wl1 q).testBit j = true)))), (0, .ref (a 0)), (1, .int (nI i)), (2, .int (nI j))]) hx hb dX0_alike_73 hl (k := 4) rfl (cd_inc _) (by decide) rfl (fun ls hl => ?_)
            refine lv_goto (tgt := 27) hx hb dX0_alike_76 (by decide) ?_
            exact ih27 _ _ (by omega) ⟨w + 1, rfl, (by omega), lv_sub hl [2, 3, 4, 1, 0] rfl⟩
          · refine lv_iconst (v := nI 1) hx hb dX0_alike_67 (by decide) ?_
            refine lv_goto (tgt := 72) hx hb dX0_alike_68 (by decide) ?_
            refine cd_v (y := cd_b (∀ q, q < w + 1 → ((Wl1 q).testBit i = true ↔ (Wl1 q).testBit j = true))) ((cd_b1 (cd_alls c37 c64)).symm) ?_
            refine lv_istore_n (lv' := [(3, .int (cd_b (∀ q, q < w + 1 → ((Wl1 q).testBit i = true ↔ (Wl1 q).testBit j = true)))), (0, .ref (a 0)), (1, .int (nI i)), (2, .int (nI j)), (4, .int (nI w))]) hx hb dX0_alike_72 rfl hl (by decide) rfl (fun ls hl => ?_)
            refine lv_iinc (v := nI (w + 1)) (lv' := [(4, .int (nI (w + 1))), (3, .int (cd_b (∀ q, q < w + 1 → ((Wl1 q).testBit i = true ↔ (Wl1 q).testBit j = true)))), (0, .ref (a 0)), (1, .int (nI i)), (2, .int (nI j))]) hx hb dX0_alike_73 hl (k := 4) rfl (cd_inc _) (by decide) rfl (fun ls hl => ?_)
            refine lv_goto (tgt := 27) hx hb dX0_alike_76 (by decide) ?_
            exact ih27 _ _ (by omega) ⟨w + 1, rfl, (by omega), lv_sub hl [2, 3, 4, 1, 0] rfl⟩
    · refine lv_iconst (v := (-1)) hx hb dX0_alike_16 (by decide) ?_
      exact cd_retW (kn, fd, Wl, hu, Hl) hx hb hr hlocks (⟨Or.inl ⟨Or.inr c13, rfl⟩, hkw⟩) hP hD hS dX0_alike_17
set_option maxHeartbeats 4000000 in
set_option maxRecDepth 100000 in
/-- enough(set, c) -/
theorem mD_enough (l : Launch) (D : va_G) (a : Nat → Nat) (d : Nat → ClassId) (n : Nat) (K : Nat → Nat) (L : Nat → Nat) (R : Nat → Nat) (kn : Prop) (fd : Nat) (Wl : Nat → Nat) (hu : Nat) (Hl : Nat → Nat) (x y : Int32) (hwf : cd_wf n K L R) (hkw : kn → cd_WL n K L R 0 fd Wl) : cd_RW (S := Prop × Nat × (Nat → Nat) × Nat × (Nat → Nat)) l yX0_enough (ws_ yX0_enough cX0_enough 9 (some .int)) (cd_rm 4) D (cd_tD d) (cd_wD a d n K L R kn fd Wl hu Hl) [.ref (a 0), .int (x), .int (y)] (fun r u => (cd_gd n y (fun j r => cd_en n K L R (cd_mo x n) j r) r) ∧ (u.1 → cd_WL n K L R 0 u.2.1 u.2.2.1)) (fun u => cd_wD a d n K L R u.1 u.2.1 u.2.2.1 u.2.2.2.1 u.2.2.2.2) := by
  refine cd_enterRW (own := RX0) (by decide) rfl (Nat.le_of_ble_eq_true rfl) ?_
  intro A p e s m below meth c ls hx hb hr hlocks hml hown hts hK hP hl hD hA hS
  have hl : lv_has ls 9 [(0, .ref (a 0)), (1, .int (x)), (2, .int (y))] := hl
  have hn := hwf.1
  have hp11 := cd_p11 hn
  have hp1 := cd_p1 n
  refine lv_aload_n hx hb dX0_enough_0 rfl (lv_at hl 0 rfl) ?_
  refine lv_iload_n hx hb dX0_enough_1 rfl (lv_at hl 2 rfl) ?_
  refine cd_callRO ⟨hx, hb, hml, hown, hts⟩ (mD_missing l D a d n K L R kn fd Wl hu Hl y) (kD_missing hts ⟨Nat.le_of_ble_eq_true rfl, Nat.le_of_ble_eq_true rfl⟩) rfl rfl rfl hP hK rfl hl.1 rfl (Nat.le_of_ble_eq_true rfl) dX0_enough_2 ⟨Nat.zero_le _, Nat.zero_le _⟩ ?_
  refine cd_ifb_eq (tgt := 10) hx hb dX0_enough_5 (by decide) (fun c5 => ?_) (fun c5 => ?_)
  · obtain ⟨j, hj, rfl⟩ := cd_ix hn c5
    refine lv_aload_n hx hb dX0_enough_10 rfl (lv_at hl 0 rfl) ?_
    refine cd_callRV ⟨hx, hb, hml, hown, hts⟩ (mD_find l D a d n K L R kn fd Wl hu Hl hwf hkw) (kD_find hts ⟨Nat.le_of_ble_eq_true rfl, Nat.le_of_ble_eq_true rfl⟩) rfl rfl rfl hP hK hD hS hA rfl hl.1 rfl (Nat.le_of_ble_eq_true rfl) dX0_enough_11 ⟨Nat.zero_le _, Nat.zero_le _⟩ (fun u11 H locs hu11 hP hD hS => ?_)
    obtain ⟨kn1, fd1, Wl1⟩ := u11
    obtain ⟨hk1, hW1⟩ := hu11
    have hP : va_P D cd_cls (cd_wD a d n K L R kn1 fd1 Wl1 hu Hl) H := hP
    have hD : va_D A (cd_wD a d n K L R kn1 fd1 Wl1 hu Hl) := hD
    have hW1 : cd_WL n K L R 0 fd1 Wl1 := hW1
    have hfd := cd_WL_fd hn hW1
    refine lv_iload_n hx hb dX0_enough_14 rfl (lv_at hl 1 rfl) ?_
    refine lv_aload_n hx hb dX0_enough_15 rfl (lv_at hl 0 rfl) ?_
    refine cd_callRO ⟨hx, hb, hml, hown, hts⟩ (mD_every l D a d n K L R kn1 fd1 Wl1 hu Hl hn) (kD_every hts ⟨Nat.le_of_ble_eq_true rfl, Nat.le_of_ble_eq_true rfl⟩) rfl rfl rfl hP hK rfl hl.1 rfl (Nat.le_of_ble_eq_true rfl) dX0_enough_16 ⟨Nat.zero_le _, Nat.zero_le _⟩ ?_
    refine lv_iand hx hb dX0_enough_19 ?_
    refine cd_v (y := nI (cd_mo x n)) (cd_mask _ hn) ?_
    refine lv_istore_n (lv' := [(3, .int (nI (cd_mo x n))), (0, .ref (a 0)), (1, .int (x)), (2, .int (nI j))]) hx hb dX0_enough_20 rfl hl (by decide) rfl (fun ls hl => ?_)
    refine lv_aload_n hx hb dX0_enough_21 rfl (lv_at hl 1 rfl) ?_
    refine lv_iload_n hx hb dX0_enough_22 rfl (lv_at hl 0 rfl) ?_
    refine lv_iload_n hx hb dX0_enough_23 rfl (lv_at hl 3 rfl) ?_
    refine cd_callRW ⟨hx, hb, hml, hown, hts⟩ (mD_gather l D a d n K L R kn1 fd1 Wl1 hu Hl (cd_mo x n) j (cd_mo2048 x hn) (by omega) hfd) (kD_gather hts ⟨Nat.le_of_ble_eq_true rfl, Nat.le_of_ble_eq_true rfl⟩) rfl rfl rfl hP hK hD hS hA rfl hl.1 rfl (Nat.le_of_ble_eq_true rfl) dX0_enough_24 ⟨Nat.zero_le _, Nat.zero_le _⟩ (fun r24 u24 H locs hu24 hP hD hS => ?_)
    obtain ⟨hu1, Hl1⟩ := u24
    obtain ⟨hr1, hga⟩ := hu24
    subst hr1
    have hP : va_P D cd_cls (cd_wD a d n K L R kn1 fd1 Wl1 hu1 Hl1) H := hP
    have hD : va_D A (cd_wD a d n K L R kn1 fd1 Wl1 hu1 Hl1) := hD
    have hga : cd_GA fd1 Wl1 (cd_mo x n) j hu1 Hl1 := hga
    refine cd_v (y := cd_b ((cd_cl n K L R (cd_mo x n)).testBit j = true)) (cd_bc (cd_GA_can hW1 hj)) ?_
    refine lv_istore (lv' := [(4, .int (cd_b ((cd_cl n K L R (cd_mo x n)).testBit j = true))), (3, .int (nI (cd_mo x n))), (0, .ref (a 0)), (1, .int (x)), (2, .int (nI j))]) hx hb dX0_enough_27 hl (by decide) rfl (fun ls hl => ?_)
    refine lv_iload hx hb dX0_enough_29 (lv_at hl 0 rfl) ?_
    refine cd_ifb_ne (tgt := 37) hx hb dX0_enough_31 (by decide) (fun c31 => ?_) (fun c31 => ?_)
    · have hgl := hga.2.2
      refine lv_aload_n hx hb dX0_enough_37 rfl (lv_at hl 2 rfl) ?_
      refine lv_iload_n hx hb dX0_enough_38 rfl (lv_at hl 1 rfl) ?_
      refine cd_callRO ⟨hx, hb, hml, hown, hts⟩ (mD_sizeOf l D a d n K L R kn1 fd1 Wl1 hu1 Hl1 (cd_mo x n) hn) (kD_sizeOf hts ⟨Nat.le_of_ble_eq_true rfl, Nat.le_of_ble_eq_true rfl⟩) rfl rfl rfl hP hK rfl hl.1 rfl (Nat.le_of_ble_eq_true rfl) dX0_enough_39 ⟨Nat.zero_le _, Nat.zero_le _⟩ ?_
      refine lv_istore (lv' := [(5, .int (nI (cd_pc (cd_mo x n) n))), (4, .int (cd_b ((cd_cl n K L R (cd_mo x n)).testBit j = true))), (3, .int (nI (cd_mo x n))), (0, .ref (a 0)), (1, .int (x)), (2, .int (nI j))]) hx hb dX0_enough_42 hl (by decide) rfl (fun ls hl => ?_)
      refine lv_iload_n hx hb dX0_enough_44 rfl (lv_at hl 2 rfl) ?_
      refine lv_istore (lv' := [(6, .int (nI (cd_mo x n))), (5, .int (nI (cd_pc (cd_mo x n) n))), (4, .int (cd_b ((cd_cl n K L R (cd_mo x n)).testBit j = true))), (3, .int (nI (cd_mo x n))), (0, .ref (a 0)), (1, .int (x)), (2, .int (nI j))]) hx hb dX0_enough_45 hl (by decide) rfl (fun ls hl => ?_)
      refine cd_loopR (fun N_ ls_ => ∃ (q : Nat) (b : Nat), N_ = q ∧ cd_sub q (cd_mo x n) ∧ q < 2048 ∧ b ≤ 11 ∧ (∃ z, cd_sub z (cd_mo x n) ∧ (cd_cl n K L R z).testBit j = true ∧ b = cd_pc z n) ∧ (∀ z, cd_sub z (cd_mo x n) → (cd_cl n K L R z).testBit j = true → q < z → b ≤ cd_pc z n) ∧ lv_has ls_ 9 [(0, .ref (a 0)), (1, .int (x)), (2, .int (nI j)), (3, .int (nI (cd_mo x n))), (5, .int (nI b)), (6, .int (nI q))]) ?_ _ ⟨cd_mo x n, cd_pc (cd_mo x n) n, rfl, cd_sub_rf _, cd_mo2048 x hn, (Nat.le_trans (cd_pc_le _ _) hn), ⟨_, cd_sub_rf _, c31, rfl⟩, (fun z hz _ hl => absurd (cd_sub_le hz) (Nat.not_le.mpr hl)), lv_sub hl [4, 5, 6, 3, 1, 0] rfl⟩
      intro N47 ls hI47 ih47
      obtain ⟨q, b, hN47, hq, hq2, hbl, hb1, hb2, hl⟩ := hI47
      refine lv_iload hx hb dX0_enough_47 (lv_at hl 5 rfl) ?_
      refine cd_if_le (tgt := 100) (by omega) hx hb dX0_enough_49 (by decide) (fun c49 => ?_) (fun c49 => ?_)
      · have hgl := hga.2.2
        refine lv_aload_n hx hb dX0_enough_100 rfl (lv_at hl 0 rfl) ?_
        refine gD_hurdles hx hb hts hown hK hP dX0_enough_101 ?_
        refine cd_if_ne (tgt := 111) (by omega) hx hb dX0_enough_104 (by decide) (fun c104 => ?_) (fun c104 => ?_)
        · refine lv_iload hx hb dX0_enough_111 (lv_at hl 4 rfl) ?_
          exact cd_retW (kn1, fd1, Wl1, hu1, Hl1) hx hb hr hlocks (⟨cd_gd_in hj (cd_en_b hW1 hga hj c104 c49 hb1 hb2), fun _ => hW1⟩) hP hD hS dX0_enough_113
        · refine lv_iconst (v := nI 0) hx hb dX0_enough_107 (by decide) ?_
          refine lv_goto (tgt := 113) hx hb dX0_enough_108 (by decide) ?_
          exact cd_retW (kn1, fd1, Wl1, hu1, Hl1) hx hb hr hlocks (⟨cd_gd_in hj (cd_en_0 hW1 hga hj c104), fun _ => hW1⟩) hP hD hS dX0_enough_113
      · have hpq := cd_pc_le q n
        refine lv_aload_n hx hb dX0_enough_52 rfl (lv_at hl 0 rfl) ?_
        refine lv_iload hx hb dX0_enough_53 (lv_at hl 5 rfl) ?_
        refine cd_callRO ⟨hx, hb, hml, hown, hts⟩ (mD_sizeOf l D a d n K L R kn1 fd1 Wl1 hu1 Hl1 q hn) (kD_sizeOf hts ⟨Nat.le_of_ble_eq_true rfl, Nat.le_of_ble_eq_true rfl⟩) rfl rfl rfl hP hK rfl hl.1 rfl (Nat.le_of_ble_eq_true rfl) dX0_enough_55 ⟨Nat.zero_le _, Nat.zero_le _⟩ ?_
        refine lv_istore (lv' := [(7, .int (nI (cd_pc q n))), (0, .ref (a 0)), (1, .int (x)), (2, .int (nI j)), (3, .int (nI (cd_mo x n))), (5, .int (nI b)), (6, .int (nI q))]) hx hb dX0_enough_58 hl (by decide) rfl (fun ls hl => ?_)
        refine lv_iload hx hb dX0_enough_60 (lv_at hl 0 rfl) ?_
        refine lv_iload hx hb dX0_enough_62 (lv_at hl 5 rfl) ?_
        refine cd_icmp_ge (tgt := 89) (by omega) (by omega) hx hb dX0_enough_64 (by decide) (fun c64 => ?_) (fun c64 => ?_)
        · refine lv_iload hx hb dX0_enough_89 (lv_at hl 6 rfl) ?_
          refine lv_iconst (v := nI 1) hx hb dX0_enough_91 (by decide) ?_
          refine lv_isub hx hb dX0_enough_92 ?_
          refine cd_v (y := nI (q - 1)) (pk_sub (by omega)) ?_
          refine lv_iload_n hx hb dX0_enough_93 rfl (lv_at hl 4 rfl) ?_
          refine lv_iand hx hb dX0_enough_94 ?_
          refine cd_v (y := nI ((q - 1) &&& (cd_mo x n))) (cd_and _ _) ?_
          refine lv_istore (lv' := [(6, .int (nI ((q - 1) &&& (cd_mo x n)))), (7, .int (nI (cd_pc q n))), (0, .ref (a 0)), (1, .int (x)), (2, .int (nI j)), (3, .int (nI (cd_mo x n))), (5, .int (nI b))]) hx hb dX0_enough_95 hl (by decide) rfl (fun ls hl => ?_)
          refine lv_goto (tgt := 47) hx hb dX0_enough_97 (by decide) ?_
          exact ih47 _ _ (by have := @Nat.and_le_left (q - 1) (cd_mo x n); omega) ⟨(q - 1) &&& (cd_mo x n), b, rfl, (fun i h => ((cd_and_bits _ _ _).mp h).2), (Nat.lt_of_le_of_lt Nat.and_le_right (cd_mo2048 x hn)), hbl, hb1, cd_en_next (G := fun z => (cd_cl n K L R z).testBit j = true) hq hb2 (Nat.le_refl _) (fun h => c64), lv_sub hl [2, 3, 4, 5, 6, 0] rfl⟩
        · refine lv_aload_n hx hb dX0_enough_67 rfl (lv_at hl 1 rfl) ?_
          refine lv_iload hx hb dX0_enough_68 (lv_at hl 6 rfl) ?_
          refine cd_callRO ⟨hx, hb, hml, hown, hts⟩ (mD_meetsAll l D a d n K L R kn1 fd1 Wl1 hu1 Hl1 q hq2 (by omega)) (kD_meetsAll hts ⟨Nat.le_of_ble_eq_true rfl, Nat.le_of_ble_eq_true rfl⟩) rfl rfl rfl hP hK rfl hl.1 rfl (Nat.le_of_ble_eq_true rfl) dX0_enough_70 ⟨Nat.zero_le _, Nat.zero_le _⟩ ?_
          refine cd_v (y := cd_b ((cd_cl n K L R q).testBit j = true)) (cd_bc (cd_GA_cl hW1 hga hj hq)) ?_
          refine lv_istore (lv' := [(8, .int (cd_b ((cd_cl n K L R q).testBit j = true))), (7, .int (nI (cd_pc q n))), (0, .ref (a 0)), (1, .int (x)), (2, .int (nI j)), (3, .int (nI (cd_mo x n))), (5, .int (nI b)), (6, .int (nI q))]) hx hb dX0_enough_73 hl (by decide) rfl (fun ls hl => ?_)
          refine lv_iload hx hb dX0_enough_75 (lv_at hl 0 rfl) ?_
          refine cd_ifb_eq (tgt := 85) hx hb dX0_enough_77 (by decide) (fun c77 => ?_) (fun c77 => ?_)
          · refine lv_iload hx hb dX0_enough_85 (lv_at hl 6 rfl) ?_
            refine lv_istore (lv' := [(5, .int (nI b)), (8, .int (cd_b ((cd_cl n K L R q).testBit j = true))), (7, .int (nI (cd_pc q n))), (0, .ref (a 0)), (1, .int (x)), (2, .int (nI j)), (3, .int (nI (cd_mo x n))), (6, .int (nI q))]) hx hb dX0_enough_87 hl (by decide) rfl (fun ls hl => ?_)
            refine lv_iload hx hb dX0_enough_89 (lv_at hl 7 rfl) ?_
            refine lv_iconst (v := nI 1) hx hb dX0_enough_91 (by decide) ?_
            refine lv_isub hx hb dX0_enough_92 ?_
            refine cd_v (y := nI (q - 1)) (pk_sub (by omega)) ?_
            refine lv_iload_n hx hb dX0_enough_93 rfl (lv_at hl 6 rfl) ?_
            refine lv_iand hx hb dX0_enough_94 ?_
            refine cd_v (y := nI ((q - 1) &&& (cd_mo x n))) (cd_and _ _) ?_
            refine lv_istore (lv' := [(6, .int (nI ((q - 1) &&& (cd_mo x n)))), (5, .int (nI b)), (8, .int (cd_b ((cd_cl n K L R q).testBit j = true))), (7, .int (nI (cd_pc q n))), (0, .ref (a 0)), (1, .int (x)), (2, .int (nI j)), (3, .int (nI (cd_mo x n)))]) hx hb dX0_enough_95 hl (by decide) rfl (fun ls hl => ?_)
            refine lv_goto (tgt := 47) hx hb dX0_enough_97 (by decide) ?_
            exact ih47 _ _ (by have := @Nat.and_le_left (q - 1) (cd_mo x n); omega) ⟨(q - 1) &&& (cd_mo x n), b, rfl, (fun i h => ((cd_and_bits _ _ _).mp h).2), (Nat.lt_of_le_of_lt Nat.and_le_right (cd_mo2048 x hn)), hbl, hb1, cd_en_next (G := fun z => (cd_cl n K L R z).testBit j = true) hq hb2 (Nat.le_refl _) (fun h => absurd h c77), lv_sub hl [4, 5, 6, 7, 1, 0] rfl⟩
          · refine lv_iload hx hb dX0_enough_80 (lv_at hl 1 rfl) ?_
            refine lv_goto (tgt := 87) hx hb dX0_enough_82 (by decide) ?_
            refine lv_istore (lv' := [(5, .int (nI (cd_pc q n))), (8, .int (cd_b ((cd_cl n K L R q).testBit j = true))), (7, .int (nI (cd_pc q n))), (0, .ref (a 0)), (1, .int (x)), (2, .int (nI j)), (3, .int (nI (cd_mo x n))), (6, .int (nI q))]) hx hb dX0_enough_87 hl (by decide) rfl (fun ls hl => ?_)
            refine lv_iload hx hb dX0_enough_89 (lv_at hl 7 rfl) ?_
            refine lv_iconst (v := nI 1) hx hb dX0_enough_91 (by decide) ?_
            refine lv_isub hx hb dX0_enough_92 ?_
            refine cd_v (y := nI (q - 1)) (pk_sub (by omega)) ?_
            refine lv_iload_n hx hb dX0_enough_93 rfl (lv_at hl 6 rfl) ?_
            refine lv_iand hx hb dX0_enough_94 ?_
            refine cd_v (y := nI ((q - 1) &&& (cd_mo x n))) (cd_and _ _) ?_
            refine lv_istore (lv' := [(6, .int (nI ((q - 1) &&& (cd_mo x n)))), (5, .int (nI (cd_pc q n))), (8, .int (cd_b ((cd_cl n K L R q).testBit j = true))), (7, .int (nI (cd_pc q n))), (0, .ref (a 0)), (1, .int (x)), (2, .int (nI j)), (3, .int (nI (cd_mo x n)))]) hx hb dX0_enough_95 hl (by decide) rfl (fun ls hl => ?_)
            refine lv_goto (tgt := 47) hx hb dX0_enough_97 (by decide) ?_
            exact ih47 _ _ (by have := @Nat.and_le_left (q - 1) (cd_mo x n); omega) ⟨(q - 1) &&& (cd_mo x n), cd_pc q n, rfl, (fun i h => ((cd_and_bits _ _ _).mp h).2), (Nat.lt_of_le_of_lt Nat.and_le_right (cd_mo2048 x hn)), (Nat.le_trans (cd_pc_le _ _) hn), ⟨q, hq, c77, rfl⟩, cd_en_next (G := fun z => (cd_cl n K L R z).testBit j = true) hq hb2 (Nat.le_of_lt c64) (fun _ => Nat.le_refl _), lv_sub hl [4, 5, 6, 7, 1, 0] rfl⟩
    · refine lv_bipush (v := (-4)) hx hb dX0_enough_34 (by decide) ?_
      exact cd_retW (kn1, fd1, Wl1, hu1, Hl1) hx hb hr hlocks (⟨cd_gd_in hj (Or.inl ⟨c31, rfl⟩), fun _ => hW1⟩) hP hD hS dX0_enough_36
  · refine lv_iconst (v := (-1)) hx hb dX0_enough_8 (by decide) ?_
    exact cd_retW (kn, fd, Wl, hu, Hl) hx hb hr hlocks (⟨cd_gd_bad c5, hkw⟩) hP hD hS dX0_enough_9
set_option maxHeartbeats 4000000 in
set_option maxRecDepth 100000 in
/-- saturated(set) -/
theorem mD_saturated (l : Launch) (D : va_G) (a : Nat → Nat) (d : Nat → ClassId) (n : Nat) (K : Nat → Nat) (L : Nat → Nat) (R : Nat → Nat) (kn : Prop) (fd : Nat) (Wl : Nat → Nat) (hu : Nat) (Hl : Nat → Nat) (x : Int32) (hwf : cd_wf n K L R) (hkw : kn → cd_WL n K L R 0 fd Wl) : cd_RW (S := Prop × Nat × (Nat → Nat) × Nat × (Nat → Nat)) l yX0_saturated (ws_ yX0_saturated cX0_saturated 5 (some .int)) (cd_rm 4) D (cd_tD d) (cd_wD a d n K L R kn fd Wl hu Hl) [.ref (a 0), .int (x)] (fun r u => (r = cd_b (cd_W n K L R (cd_mo x n))) ∧ (u.1 → cd_WL n K L R 0 u.2.1 u.2.2.1)) (fun u => cd_wD a d n K L R u.1 u.2.1 u.2.2.1 u.2.2.2.1 u.2.2.2.2) := by
  refine cd_enterRW (own := RX0) (by decide) rfl (Nat.le_of_ble_eq_true rfl) ?_
  intro A p e s m below meth c ls hx hb hr hlocks hml hown hts hK hP hl hD hA hS
  have hl : lv_has ls 5 [(0, .ref (a 0)), (1, .int (x))] := hl
  have hn := hwf.1
  have hp11 := cd_p11 hn
  have hp1 := cd_p1 n
  refine lv_aload_n hx hb dX0_saturated_0 rfl (lv_at hl 0 rfl) ?_
  refine cd_callRV ⟨hx, hb, hml, hown, hts⟩ (mD_find l D a d n K L R kn fd Wl hu Hl hwf hkw) (kD_find hts ⟨Nat.le_of_ble_eq_true rfl, Nat.le_of_ble_eq_true rfl⟩) rfl rfl rfl hP hK hD hS hA rfl hl.1 rfl (Nat.le_of_ble_eq_true rfl) dX0_saturated_1 ⟨Nat.zero_le _, Nat.zero_le _⟩ (fun u1 H locs hu1 hP hD hS => ?_)
  obtain ⟨kn1, fd1, Wl1⟩ := u1
  obtain ⟨hk1, hW1⟩ := hu1
  have hP : va_P D cd_cls (cd_wD a d n K L R kn1 fd1 Wl1 hu Hl) H := hP
  have hD : va_D A (cd_wD a d n K L R kn1 fd1 Wl1 hu Hl) := hD
  have hW1 : cd_WL n K L R 0 fd1 Wl1 := hW1
  have hfd := cd_WL_fd hn hW1
  refine lv_iload_n hx hb dX0_saturated_4 rfl (lv_at hl 1 rfl) ?_
  refine lv_aload_n hx hb dX0_saturated_5 rfl (lv_at hl 0 rfl) ?_
  refine cd_callRO ⟨hx, hb, hml, hown, hts⟩ (mD_every l D a d n K L R kn1 fd1 Wl1 hu Hl hn) (kD_every hts ⟨Nat.le_of_ble_eq_true rfl, Nat.le_of_ble_eq_true rfl⟩) rfl rfl rfl hP hK rfl hl.1 rfl (Nat.le_of_ble_eq_true rfl) dX0_saturated_6 ⟨Nat.zero_le _, Nat.zero_le _⟩ ?_
  refine lv_iand hx hb dX0_saturated_9 ?_
  refine cd_v (y := nI (cd_mo x n)) (cd_mask _ hn) ?_
  refine lv_istore_n (lv' := [(2, .int (nI (cd_mo x n))), (0, .ref (a 0)), (1, .int (x))]) hx hb dX0_saturated_10 rfl hl (by decide) rfl (fun ls hl => ?_)
  refine lv_iconst (v := nI 0) hx hb dX0_saturated_11 (by decide) ?_
  refine cd_v (y := cd_b (∃ q, q < 0 ∧ Wl1 q = cd_mo x n)) ((cd_b0 (fun ⟨q, hq, _⟩ => absurd hq (Nat.not_lt_zero q))).symm) ?_
  refine lv_istore_n (lv' := [(3, .int (cd_b (∃ q, q < 0 ∧ Wl1 q = cd_mo x n))), (2, .int (nI (cd_mo x n))), (0, .ref (a 0)), (1, .int (x))]) hx hb dX0_saturated_12 rfl hl (by decide) rfl (fun ls hl => ?_)
  refine lv_iconst (v := nI 0) hx hb dX0_saturated_13 (by decide) ?_
  refine lv_istore (lv' := [(4, .int (nI 0)), (3, .int (cd_b (∃ q, q < 0 ∧ Wl1 q = cd_mo x n))), (2, .int (nI (cd_mo x n))), (0, .ref (a 0)), (1, .int (x))]) hx hb dX0_saturated_14 hl (by decide) rfl (fun ls hl => ?_)
  refine cd_loopR (fun N_ ls_ => ∃ (w : Nat), N_ = fd1 - w ∧ w ≤ fd1 ∧ (lv_has ls_ 5 [(0, .ref (a 0)), (1, .int (x)), (2, .int (nI (cd_mo x n))), (3, .int (cd_b (∃ q, q < w ∧ Wl1 q = cd_mo x n))), (4, .int (nI w))])) ?_ _ ⟨0, rfl, (by omega), lv_sub hl [3, 4, 2, 1, 0] rfl⟩
  intro N16 ls hI16 ih16
  obtain ⟨w, hN16, hw, hl⟩ := hI16
  refine lv_iload hx hb dX0_saturated_16 (lv_at hl 4 rfl) ?_
  refine lv_aload_n hx hb dX0_saturated_18 rfl (lv_at hl 0 rfl) ?_
  refine gD_found hx hb hts hown hK hP dX0_saturated_19 ?_
  refine cd_icmp_ge (tgt := 48) (by omega) (by omega) hx hb dX0_saturated_22 (by decide) (fun c22 => ?_) (fun c22 => ?_)
  · refine lv_iload_n hx hb dX0_saturated_48 rfl (lv_at hl 3 rfl) ?_
    exact cd_retW (kn1, fd1, Wl1, hu, Hl) hx hb hr hlocks (⟨cd_bc ⟨fun ⟨q, hq, e⟩ => by rw [← e]; exact (hW1.1 q (by omega)).2.2, fun h => by obtain ⟨q, hq, e⟩ := hW1.2.1 _ (Nat.zero_le _) (cd_mo_lt x n) h; exact ⟨q, by omega, e⟩⟩, fun _ => hW1⟩) hP hD hS dX0_saturated_49
  · refine lv_aload_n hx hb dX0_saturated_25 rfl (lv_at hl 0 rfl) ?_
    refine gD_world hx hb hts hown hK hP dX0_saturated_26 ?_
    refine lv_iload hx hb dX0_saturated_29 (lv_at hl 4 rfl) ?_
    refine lD_world hx hb hK hP (by omega) dX0_saturated_31 ?_
    refine lv_iload_n hx hb dX0_saturated_32 rfl (lv_at hl 2 rfl) ?_
    refine cd_icmp_ne (tgt := 40) (cd_WL31 hW1 hn c22) (Nat.lt_trans (cd_mo2048 x hn) (by decide)) hx hb dX0_saturated_33 (by decide) (fun c33 => ?_) (fun c33 => ?_)
    · refine lv_iload_n hx hb dX0_saturated_40 rfl (lv_at hl 3 rfl) ?_
      refine cd_v (y := cd_b (∃ q, q < w + 1 ∧ Wl1 q = cd_mo x n)) (cd_bc ⟨fun ⟨q, hq, e⟩ => ⟨q, by omega, e⟩, fun ⟨q, hq, e⟩ => ⟨q, Nat.lt_of_le_of_ne (by omega) (fun z => c33 (by rw [← z]; exact e)), e⟩⟩) ?_
      refine lv_istore_n (lv' := [(3, .int (cd_b (∃ q, q < w + 1 ∧ Wl1 q = cd_mo x n))), (0, .ref (a 0)), (1, .int (x)), (2, .int (nI (cd_mo x n))), (4, .int (nI w))]) hx hb dX0_saturated_41 rfl hl (by decide) rfl (fun ls hl => ?_)
      refine lv_iinc (v := nI (w + 1)) (lv' := [(4, .int (nI (w + 1))), (3, .int (cd_b (∃ q, q < w + 1 ∧ Wl1 q = cd_mo x n))), (0, .ref (a 0)), (1, .int (x)), (2, .int (nI (cd_mo x n)))]) hx hb dX0_saturated_42 hl (k := 4) rfl (cd_inc _) (by decide) rfl (fun ls hl => ?_)
      refine lv_goto (tgt := 16) hx hb dX0_saturated_45 (by decide) ?_
      exact ih16 _ _ (by omega) ⟨w + 1, rfl, (by omega), lv_sub hl [2, 3, 4, 1, 0] rfl⟩
    · refine lv_iconst (v := nI 1) hx hb dX0_saturated_36 (by decide) ?_
      refine lv_goto (tgt := 41) hx hb dX0_saturated_37 (by decide) ?_
      refine cd_v (y := cd_b (∃ q, q < w + 1 ∧ Wl1 q = cd_mo x n)) ((cd_b1 ⟨w, Nat.lt_succ_self w, c33⟩).symm) ?_
      refine lv_istore_n (lv' := [(3, .int (cd_b (∃ q, q < w + 1 ∧ Wl1 q = cd_mo x n))), (0, .ref (a 0)), (1, .int (x)), (2, .int (nI (cd_mo x n))), (4, .int (nI w))]) hx hb dX0_saturated_41 rfl hl (by decide) rfl (fun ls hl => ?_)
      refine lv_iinc (v := nI (w + 1)) (lv' := [(4, .int (nI (w + 1))), (3, .int (cd_b (∃ q, q < w + 1 ∧ Wl1 q = cd_mo x n))), (0, .ref (a 0)), (1, .int (x)), (2, .int (nI (cd_mo x n)))]) hx hb dX0_saturated_42 hl (k := 4) rfl (cd_inc _) (by decide) rfl (fun ls hl => ?_)
      refine lv_goto (tgt := 16) hx hb dX0_saturated_45 (by decide) ?_
      exact ih16 _ _ (by omega) ⟨w + 1, rfl, (by omega), lv_sub hl [2, 3, 4, 1, 0] rfl⟩
set_option maxHeartbeats 4000000 in
set_option maxRecDepth 100000 in
/-- worlds() -/
theorem mD_worlds (l : Launch) (D : va_G) (a : Nat → Nat) (d : Nat → ClassId) (n : Nat) (K : Nat → Nat) (L : Nat → Nat) (R : Nat → Nat) (kn : Prop) (fd : Nat) (Wl : Nat → Nat) (hu : Nat) (Hl : Nat → Nat) (hwf : cd_wf n K L R) (hkw : kn → cd_WL n K L R 0 fd Wl) : cd_RW (S := Prop × Nat × (Nat → Nat) × Nat × (Nat → Nat)) l yX0_worlds (ws_ yX0_worlds cX0_worlds 1 (some .int)) (cd_rm 4) D (cd_tD d) (cd_wD a d n K L R kn fd Wl hu Hl) [.ref (a 0)] (fun r u => (r = nI (cd_ct (cd_W n K L R) (2 ^ n))) ∧ (u.1 → cd_WL n K L R 0 u.2.1 u.2.2.1)) (fun u => cd_wD a d n K L R u.1 u.2.1 u.2.2.1 u.2.2.2.1 u.2.2.2.2) := by
  refine cd_enterRW (own := RX0) (by decide) rfl (Nat.le_of_ble_eq_true rfl) ?_
  intro A p e s m below meth c ls hx hb hr hlocks hml hown hts hK hP hl hD hA hS
  have hl : lv_has ls 1 [(0, .ref (a 0))] := hl
  have hn := hwf.1
  have hp11 := cd_p11 hn
  have hp1 := cd_p1 n
  refine lv_aload_n hx hb dX0_worlds_0 rfl (lv_at hl 0 rfl) ?_
  refine cd_callRV ⟨hx, hb, hml, hown, hts⟩ (mD_find l D a d n K L R kn fd Wl hu Hl hwf hkw) (kD_find hts ⟨Nat.le_of_ble_eq_true rfl, Nat.le_of_ble_eq_true rfl⟩) rfl rfl rfl hP hK hD hS hA rfl hl.1 rfl (Nat.le_of_ble_eq_true rfl) dX0_worlds_1 ⟨Nat.zero_le _, Nat.zero_le _⟩ (fun u1 H locs hu1 hP hD hS => ?_)
  obtain ⟨kn1, fd1, Wl1⟩ := u1
  obtain ⟨hk1, hW1⟩ := hu1
  have hP : va_P D cd_cls (cd_wD a d n K L R kn1 fd1 Wl1 hu Hl) H := hP
  have hD : va_D A (cd_wD a d n K L R kn1 fd1 Wl1 hu Hl) := hD
  have hW1 : cd_WL n K L R 0 fd1 Wl1 := hW1
  have hfd := cd_WL_fd hn hW1
  refine lv_aload_n hx hb dX0_worlds_4 rfl (lv_at hl 0 rfl) ?_
  refine gD_found hx hb hts hown hK hP dX0_worlds_5 ?_
  exact cd_retW (kn1, fd1, Wl1, hu, Hl) hx hb hr hlocks (⟨congrArg nI (cd_WL_ct hW1), fun _ => hW1⟩) hP hD hS dX0_worlds_8
set_option maxHeartbeats 4000000 in
set_option maxRecDepth 100000 in
/-- against(set, c) -/
theorem mD_against (l : Launch) (D : va_G) (a : Nat → Nat) (d : Nat → ClassId) (n : Nat) (K : Nat → Nat) (L : Nat → Nat) (R : Nat → Nat) (kn : Prop) (fd : Nat) (Wl : Nat → Nat) (hu : Nat) (Hl : Nat → Nat) (x y : Int32) (hwf : cd_wf n K L R) (hkw : kn → cd_WL n K L R 0 fd Wl) : cd_RW (S := Prop × Nat × (Nat → Nat) × Nat × (Nat → Nat)) l yX0_against (ws_ yX0_against cX0_against 6 (some .int)) (cd_rm 4) D (cd_tD d) (cd_wD a d n K L R kn fd Wl hu Hl) [.ref (a 0), .int (x), .int (y)] (fun r u => (cd_gd n y (fun j r => cd_ag n K L R (cd_mo x n) j r) r) ∧ (u.1 → cd_WL n K L R 0 u.2.1 u.2.2.1)) (fun u => cd_wD a d n K L R u.1 u.2.1 u.2.2.1 u.2.2.2.1 u.2.2.2.2) := by
  refine cd_enterRW (own := RX0) (by decide) rfl (Nat.le_of_ble_eq_true rfl) ?_
  intro A p e s m below meth c ls hx hb hr hlocks hml hown hts hK hP hl hD hA hS
  have hl : lv_has ls 6 [(0, .ref (a 0)), (1, .int (x)), (2, .int (y))] := hl
  have hn := hwf.1
  have hp11 := cd_p11 hn
  have hp1 := cd_p1 n
  refine lv_aload_n hx hb dX0_against_0 rfl (lv_at hl 0 rfl) ?_
  refine lv_iload_n hx hb dX0_against_1 rfl (lv_at hl 2 rfl) ?_
  refine cd_callRO ⟨hx, hb, hml, hown, hts⟩ (mD_missing l D a d n K L R kn fd Wl hu Hl y) (kD_missing hts ⟨Nat.le_of_ble_eq_true rfl, Nat.le_of_ble_eq_true rfl⟩) rfl rfl rfl hP hK rfl hl.1 rfl (Nat.le_of_ble_eq_true rfl) dX0_against_2 ⟨Nat.zero_le _, Nat.zero_le _⟩ ?_
  refine cd_ifb_eq (tgt := 10) hx hb dX0_against_5 (by decide) (fun c5 => ?_) (fun c5 => ?_)
  · obtain ⟨j, hj, rfl⟩ := cd_ix hn c5
    refine lv_aload_n hx hb dX0_against_10 rfl (lv_at hl 0 rfl) ?_
    refine cd_callRV ⟨hx, hb, hml, hown, hts⟩ (mD_find l D a d n K L R kn fd Wl hu Hl hwf hkw) (kD_find hts ⟨Nat.le_of_ble_eq_true rfl, Nat.le_of_ble_eq_true rfl⟩) rfl rfl rfl hP hK hD hS hA rfl hl.1 rfl (Nat.le_of_ble_eq_true rfl) dX0_against_11 ⟨Nat.zero_le _, Nat.zero_le _⟩ (fun u11 H locs hu11 hP hD hS => ?_)
    obtain ⟨kn1, fd1, Wl1⟩ := u11
    obtain ⟨hk1, hW1⟩ := hu11
    have hP : va_P D cd_cls (cd_wD a d n K L R kn1 fd1 Wl1 hu Hl) H := hP
    have hD : va_D A (cd_wD a d n K L R kn1 fd1 Wl1 hu Hl) := hD
    have hW1 : cd_WL n K L R 0 fd1 Wl1 := hW1
    have hfd := cd_WL_fd hn hW1
    refine lv_iload_n hx hb dX0_against_14 rfl (lv_at hl 1 rfl) ?_
    refine lv_aload_n hx hb dX0_against_15 rfl (lv_at hl 0 rfl) ?_
    refine cd_callRO ⟨hx, hb, hml, hown, hts⟩ (mD_every l D a d n K L R kn1 fd1 Wl1 hu Hl hn) (kD_every hts ⟨Nat.le_of_ble_eq_true rfl, Nat.le_of_ble_eq_true rfl⟩) rfl rfl rfl hP hK rfl hl.1 rfl (Nat.le_of_ble_eq_true rfl) dX0_against_16 ⟨Nat.zero_le _, Nat.zero_le _⟩ ?_
    refine lv_iand hx hb dX0_against_19 ?_
    refine cd_v (y := nI (cd_mo x n)) (cd_mask _ hn) ?_
    refine lv_istore_n (lv' := [(3, .int (nI (cd_mo x n))), (0, .ref (a 0)), (1, .int (x)), (2, .int (nI j))]) hx hb dX0_against_20 rfl hl (by decide) rfl (fun ls hl => ?_)
    refine lv_bipush (v := (-4)) hx hb dX0_against_21 (by decide) ?_
    refine lv_istore (lv' := [(4, .int ((-4))), (3, .int (nI (cd_mo x n))), (0, .ref (a 0)), (1, .int (x)), (2, .int (nI j))]) hx hb dX0_against_23 hl (by decide) rfl (fun ls hl => ?_)
    refine lv_iconst (v := nI 0) hx hb dX0_against_25 (by decide) ?_
    refine lv_istore (lv' := [(5, .int (nI 0)), (4, .int ((-4))), (3, .int (nI (cd_mo x n))), (0, .ref (a 0)), (1, .int (x)), (2, .int (nI j))]) hx hb dX0_against_26 hl (by decide) rfl (fun ls hl => ?_)
    refine cd_loopR (fun N_ ls_ => ∃ (w : Nat) (v : Int32), N_ = fd1 - w ∧ w ≤ fd1 ∧ (cd_ls (fun z => cd_sub (cd_mo x n) z ∧ ¬ z.testBit j = true) Wl1 w v) ∧ lv_has ls_ 6 [(0, .ref (a 0)), (1, .int (x)), (2, .int (nI j)), (3, .int (nI (cd_mo x n))), (4, .int (v)), (5, .int (nI w))]) ?_ _ ⟨0, (-4), rfl, (by omega), cd_ls_0, lv_sub hl [3, 4, 5, 2, 1, 0] rfl⟩
    intro N28 ls hI28 ih28
    obtain ⟨w, v, hN28, hw, hls, hl⟩ := hI28
    refine lv_iload hx hb dX0_against_28 (lv_at hl 5 rfl) ?_
    refine lv_aload_n hx hb dX0_against_30 rfl (lv_at hl 0 rfl) ?_
    refine gD_found hx hb hts hown hK hP dX0_against_31 ?_
    refine cd_icmp_ge (tgt := 86) (by omega) (by omega) hx hb dX0_against_34 (by decide) (fun c34 => ?_) (fun c34 => ?_)
    · refine lv_iload hx hb dX0_against_86 (lv_at hl 4 rfl) ?_
      exact cd_retW (kn1, fd1, Wl1, hu, Hl) hx hb hr hlocks (⟨cd_gd_in hj (cd_ls_ag hW1 (by rw [Nat.le_antisymm hw c34] at hls; exact hls)), fun _ => hW1⟩) hP hD hS dX0_against_88
    · refine lv_iload_n hx hb dX0_against_37 rfl (lv_at hl 3 rfl) ?_
      refine lv_aload_n hx hb dX0_against_38 rfl (lv_at hl 0 rfl) ?_
      refine gD_world hx hb hts hown hK hP dX0_against_39 ?_
      refine lv_iload hx hb dX0_against_42 (lv_at hl 5 rfl) ?_
      refine lD_world hx hb hK hP (by omega) dX0_against_44 ?_
      refine lv_iconst (v := (-1)) hx hb dX0_against_45 (by decide) ?_
      refine lv_ixor hx hb dX0_against_46 ?_
      refine lv_iand hx hb dX0_against_47 ?_
      refine cd_v (y := nI (cd_df (cd_mo x n) (Wl1 w))) (cd_andn _ _) ?_
      refine cd_if_ne (tgt := 76) (cd_df31 (cd_mo2048 x hn)) hx hb dX0_against_48 (by decide) (fun c48 => ?_) (fun c48 => ?_)
      · refine lv_iload hx hb dX0_against_76 (lv_at hl 4 rfl) ?_
        refine lv_istore (lv' := [(4, .int (v)), (0, .ref (a 0)), (1, .int (x)), (2, .int (nI j)), (3, .int (nI (cd_mo x n))), (5, .int (nI w))]) hx hb dX0_against_78 hl (by decide) rfl (fun ls hl => ?_)
        refine lv_iinc (v := nI (w + 1)) (lv' := [(5, .int (nI (w + 1))), (4, .int (v)), (0, .ref (a 0)), (1, .int (x)), (2, .int (nI j)), (3, .int (nI (cd_mo x n)))]) hx hb dX0_against_80 hl (k := 5) rfl (cd_inc _) (by decide) rfl (fun ls hl => ?_)
        refine lv_goto (tgt := 28) hx hb dX0_against_83 (by decide) ?_
        exact ih28 _ _ (by omega) ⟨w + 1, v, rfl, (by omega), (cd_ls_2 hls (fun h => c48 (cd_df0.mpr h.1))), lv_sub hl [2, 3, 4, 5, 1, 0] rfl⟩
      · refine lv_aload_n hx hb dX0_against_51 rfl (lv_at hl 0 rfl) ?_
        refine lv_aload_n hx hb dX0_against_52 rfl (lv_at hl 0 rfl) ?_
        refine gD_world hx hb hts hown hK hP dX0_against_53 ?_
        refine lv_iload hx hb dX0_against_56 (lv_at hl 5 rfl) ?_
        refine lD_world hx hb hK hP (by omega) dX0_against_58 ?_
        refine lv_iload_n hx hb dX0_against_59 rfl (lv_at hl 2 rfl) ?_
        refine cd_callRO ⟨hx, hb, hml, hown, hts⟩ (mD_inN l D a d n K L R kn1 fd1 Wl1 hu Hl (Wl1 w) j (by omega)) (kD_in hts ⟨Nat.le_of_ble_eq_true rfl, Nat.le_of_ble_eq_true rfl⟩) rfl rfl rfl hP hK rfl hl.1 rfl (Nat.le_of_ble_eq_true rfl) dX0_against_60 ⟨Nat.zero_le _, Nat.zero_le _⟩ ?_
        refine cd_ifb_ne (tgt := 76) hx hb dX0_against_63 (by decide) (fun c63 => ?_) (fun c63 => ?_)
        · refine lv_iload hx hb dX0_against_76 (lv_at hl 4 rfl) ?_
          refine lv_istore (lv' := [(4, .int (v)), (0, .ref (a 0)), (1, .int (x)), (2, .int (nI j)), (3, .int (nI (cd_mo x n))), (5, .int (nI w))]) hx hb dX0_against_78 hl (by decide) rfl (fun ls hl => ?_)
          refine lv_iinc (v := nI (w + 1)) (lv' := [(5, .int (nI (w + 1))), (4, .int (v)), (0, .ref (a 0)), (1, .int (x)), (2, .int (nI j)), (3, .int (nI (cd_mo x n)))]) hx hb dX0_against_80 hl (k := 5) rfl (cd_inc _) (by decide) rfl (fun ls hl => ?_)
          refine lv_goto (tgt := 28) hx hb dX0_against_83 (by decide) ?_
          exact ih28 _ _ (by omega) ⟨w + 1, v, rfl, (by omega), (cd_ls_2 hls (fun h => h.2 c63)), lv_sub hl [2, 3, 4, 5, 1, 0] rfl⟩
        · refine lv_aload_n hx hb dX0_against_66 rfl (lv_at hl 0 rfl) ?_
          refine gD_world hx hb hts hown hK hP dX0_against_67 ?_
          refine lv_iload hx hb dX0_against_70 (lv_at hl 5 rfl) ?_
          refine lD_world hx hb hK hP (by omega) dX0_against_72 ?_
          refine lv_goto (tgt := 78) hx hb dX0_against_73 (by decide) ?_
          refine lv_istore (lv' := [(4, .int (nI (Wl1 w))), (0, .ref (a 0)), (1, .int (x)), (2, .int (nI j)), (3, .int (nI (cd_mo x n))), (5, .int (nI w))]) hx hb dX0_against_78 hl (by decide) rfl (fun ls hl => ?_)
          refine lv_iinc (v := nI (w + 1)) (lv' := [(5, .int (nI (w + 1))), (4, .int (nI (Wl1 w))), (0, .ref (a 0)), (1, .int (x)), (2, .int (nI j)), (3, .int (nI (cd_mo x n)))]) hx hb dX0_against_80 hl (k := 5) rfl (cd_inc _) (by decide) rfl (fun ls hl => ?_)
          refine lv_goto (tgt := 28) hx hb dX0_against_83 (by decide) ?_
          exact ih28 _ _ (by omega) ⟨w + 1, nI (Wl1 w), rfl, (by omega), (cd_ls_1 (ok := (fun z => cd_sub (cd_mo x n) z ∧ ¬ z.testBit j = true)) ⟨cd_df0.mp c48, c63⟩), lv_sub hl [2, 3, 4, 5, 1, 0] rfl⟩
  · refine lv_iconst (v := (-1)) hx hb dX0_against_8 (by decide) ?_
    exact cd_retW (kn, fd, Wl, hu, Hl) hx hb hr hlocks (⟨cd_gd_bad c5, hkw⟩) hP hD hS dX0_against_9
set_option maxHeartbeats 4000000 in
set_option maxRecDepth 100000 in
/-- closedSets() -/
theorem mD_closedSets (l : Launch) (D : va_G) (a : Nat → Nat) (d : Nat → ClassId) (n : Nat) (K : Nat → Nat) (L : Nat → Nat) (R : Nat → Nat) (kn : Prop) (fd : Nat) (Wl : Nat → Nat) (hu : Nat) (Hl : Nat → Nat) (hwf : cd_wf n K L R) (hkw : kn → cd_WL n K L R 0 fd Wl) : cd_RW (S := Prop × Nat × (Nat → Nat) × Nat × (Nat → Nat)) l yX0_closedSets (ws_ yX0_closedSets cX0_closedSets 4 (some .int)) (cd_rm 4) D (cd_tD d) (cd_wD a d n K L R kn fd Wl hu Hl) [.ref (a 0)] (fun r u => (r = nI (cd_ct (fun v => cd_cl n K L R v = v) (2 ^ n))) ∧ (u.1 → cd_WL n K L R 0 u.2.1 u.2.2.1)) (fun u => cd_wD a d n K L R u.1 u.2.1 u.2.2.1 u.2.2.2.1 u.2.2.2.2) := by
  refine cd_enterRW (own := RX0) (by decide) rfl (Nat.le_of_ble_eq_true rfl) ?_
  intro A p e s m below meth c ls hx hb hr hlocks hml hown hts hK hP hl hD hA hS
  have hl : lv_has ls 4 [(0, .ref (a 0))] := hl
  have hn := hwf.1
  have hp11 := cd_p11 hn
  have hp1 := cd_p1 n
  refine lv_aload_n hx hb dX0_closedSets_0 rfl (lv_at hl 0 rfl) ?_
  refine cd_callRV ⟨hx, hb, hml, hown, hts⟩ (mD_find l D a d n K L R kn fd Wl hu Hl hwf hkw) (kD_find hts ⟨Nat.le_of_ble_eq_true rfl, Nat.le_of_ble_eq_true rfl⟩) rfl rfl rfl hP hK hD hS hA rfl hl.1 rfl (Nat.le_of_ble_eq_true rfl) dX0_closedSets_1 ⟨Nat.zero_le _, Nat.zero_le _⟩ (fun u1 H locs hu1 hP hD hS => ?_)
  obtain ⟨kn1, fd1, Wl1⟩ := u1
  obtain ⟨hk1, hW1⟩ := hu1
  have hP : va_P D cd_cls (cd_wD a d n K L R kn1 fd1 Wl1 hu Hl) H := hP
  have hD : va_D A (cd_wD a d n K L R kn1 fd1 Wl1 hu Hl) := hD
  have hW1 : cd_WL n K L R 0 fd1 Wl1 := hW1
  have hfd := cd_WL_fd hn hW1
  refine lv_iconst (v := nI 0) hx hb dX0_closedSets_4 (by decide) ?_
  refine cd_v (y := nI (cd_ct (fun v => cd_cl n K L R v = v) 0)) (rfl) ?_
  refine lv_istore_n (lv' := [(1, .int (nI (cd_ct (fun v => cd_cl n K L R v = v) 0))), (0, .ref (a 0))]) hx hb dX0_closedSets_5 rfl hl (by decide) rfl (fun ls hl => ?_)
  refine lv_iconst (v := nI 0) hx hb dX0_closedSets_6 (by decide) ?_
  refine lv_istore_n (lv' := [(2, .int (nI 0)), (1, .int (nI (cd_ct (fun v => cd_cl n K L R v = v) 0))), (0, .ref (a 0))]) hx hb dX0_closedSets_7 rfl hl (by decide) rfl (fun ls hl => ?_)
  refine cd_loopR (fun N_ ls_ => ∃ (t : Nat), N_ = 2 ^ n - t ∧ t ≤ 2 ^ n ∧ lv_has ls_ 4 [(0, .ref (a 0)), (1, .int (nI (cd_ct (fun v => cd_cl n K L R v = v) t))), (2, .int (nI t))]) ?_ _ ⟨0, rfl, (by omega), lv_sub hl [2, 1, 0] rfl⟩
  intro N8 ls hI8 ih8
  obtain ⟨t, hN8, ht, hl⟩ := hI8
  refine lv_iload_n hx hb dX0_closedSets_8 rfl (lv_at hl 2 rfl) ?_
  refine lv_aload_n hx hb dX0_closedSets_9 rfl (lv_at hl 0 rfl) ?_
  refine cd_callRO ⟨hx, hb, hml, hown, hts⟩ (mD_every l D a d n K L R kn1 fd1 Wl1 hu Hl hn) (kD_every hts ⟨Nat.le_of_ble_eq_true rfl, Nat.le_of_ble_eq_true rfl⟩) rfl rfl rfl hP hK rfl hl.1 rfl (Nat.le_of_ble_eq_true rfl) dX0_closedSets_10 ⟨Nat.zero_le _, Nat.zero_le _⟩ ?_
  refine cd_icmp_gt (tgt := 41) (by omega) (by omega) hx hb dX0_closedSets_13 (by decide) (fun c13 => ?_) (fun c13 => ?_)
  · refine lv_iload_n hx hb dX0_closedSets_41 rfl (lv_at hl 1 rfl) ?_
    exact cd_retW (kn1, fd1, Wl1, hu, Hl) hx hb hr hlocks (⟨by rw [show t = 2 ^ n by omega], fun _ => hW1⟩) hP hD hS dX0_closedSets_42
  · refine lv_aload_n hx hb dX0_closedSets_16 rfl (lv_at hl 0 rfl) ?_
    refine lv_iload_n hx hb dX0_closedSets_17 rfl (lv_at hl 2 rfl) ?_
    refine cd_callRO ⟨hx, hb, hml, hown, hts⟩ (mD_closure l D a d n K L R kn1 fd1 Wl1 hu Hl t hn (by omega) hfd) (kD_closure hts ⟨Nat.le_of_ble_eq_true rfl, Nat.le_of_ble_eq_true rfl⟩) rfl rfl rfl hP hK rfl hl.1 rfl (Nat.le_of_ble_eq_true rfl) dX0_closedSets_18 ⟨Nat.zero_le _, Nat.zero_le _⟩ ?_
    refine cd_v (y := nI (cd_cl n K L R t)) (congrArg nI (cd_co_cl hW1 _)) ?_
    refine lv_istore_n (lv' := [(3, .int (nI (cd_cl n K L R t))), (0, .ref (a 0)), (1, .int (nI (cd_ct (fun v => cd_cl n K L R v = v) t))), (2, .int (nI t))]) hx hb dX0_closedSets_21 rfl hl (by decide) rfl (fun ls hl => ?_)
    refine lv_iload_n hx hb dX0_closedSets_22 rfl (lv_at hl 0 rfl) ?_
    refine lv_iload_n hx hb dX0_closedSets_23 rfl (lv_at hl 3 rfl) ?_
    refine cd_icmp_ne (tgt := 33) (cd_cl31 hn t) (by omega) hx hb dX0_closedSets_24 (by decide) (fun c24 => ?_) (fun c24 => ?_)
    · refine lv_iload_n hx hb dX0_closedSets_33 rfl (lv_at hl 2 rfl) ?_
      refine cd_v (y := nI (cd_ct (fun v => cd_cl n K L R v = v) (t + 1))) (congrArg nI (cd_ct_0 (P := fun v => cd_cl n K L R v = v) c24).symm) ?_
      refine lv_istore_n (lv' := [(1, .int (nI (cd_ct (fun v => cd_cl n K L R v = v) (t + 1)))), (3, .int (nI (cd_cl n K L R t))), (0, .ref (a 0)), (2, .int (nI t))]) hx hb dX0_closedSets_34 rfl hl (by decide) rfl (fun ls hl => ?_)
      refine lv_iinc (v := nI (t + 1)) (lv' := [(2, .int (nI (t + 1))), (1, .int (nI (cd_ct (fun v => cd_cl n K L R v = v) (t + 1)))), (3, .int (nI (cd_cl n K L R t))), (0, .ref (a 0))]) hx hb dX0_closedSets_35 hl (k := 3) rfl (cd_inc _) (by decide) rfl (fun ls hl => ?_)
      refine lv_goto (tgt := 8) hx hb dX0_closedSets_38 (by decide) ?_
      exact ih8 _ _ (by omega) ⟨t + 1, rfl, (by omega), lv_sub hl [3, 1, 0] rfl⟩
    · refine lv_iload_n hx hb dX0_closedSets_27 rfl (lv_at hl 2 rfl) ?_
      refine lv_iconst (v := nI 1) hx hb dX0_closedSets_28 (by decide) ?_
      refine lv_iadd hx hb dX0_closedSets_29 ?_
      refine cd_v (y := nI (cd_ct (fun v => cd_cl n K L R v = v) t + 1)) (nI_add _ _) ?_
      refine lv_goto (tgt := 34) hx hb dX0_closedSets_30 (by decide) ?_
      refine cd_v (y := nI (cd_ct (fun v => cd_cl n K L R v = v) (t + 1))) (congrArg nI (cd_ct_1 (P := fun v => cd_cl n K L R v = v) c24).symm) ?_
      refine lv_istore_n (lv' := [(1, .int (nI (cd_ct (fun v => cd_cl n K L R v = v) (t + 1)))), (3, .int (nI (cd_cl n K L R t))), (0, .ref (a 0)), (2, .int (nI t))]) hx hb dX0_closedSets_34 rfl hl (by decide) rfl (fun ls hl => ?_)
      refine lv_iinc (v := nI (t + 1)) (lv' := [(2, .int (nI (t + 1))), (1, .int (nI (cd_ct (fun v => cd_cl n K L R v = v) (t + 1)))), (3, .int (nI (cd_cl n K L R t))), (0, .ref (a 0))]) hx hb dX0_closedSets_35 hl (k := 3) rfl (cd_inc _) (by decide) rfl (fun ls hl => ?_)
      refine lv_goto (tgt := 8) hx hb dX0_closedSets_38 (by decide) ?_
      exact ih8 _ _ (by omega) ⟨t + 1, rfl, (by omega), lv_sub hl [3, 1, 0] rfl⟩
end
section
set_option maxHeartbeats 4000000 in
set_option maxRecDepth 100000 in
/-- has(set, i): bit i -/
theorem mM_has (l : Launch) (D : va_G) (a : Nat → Nat) (d : Nat → ClassId) (n : Nat) (K : Nat → Nat) (L : Nat → Nat) (R : Nat → Nat) (kn : Prop) (F : Nat → Nat) (T : Nat → Prop) (x : Int32) (k : Nat) (hk : k < 32) : cd_RO l yX1_has (ws_ yX1_has cX1_has 3 (some .boolean)) (cd_rm 0) D (cd_tM d) (cd_wM a d n K L R kn F T) [.ref (a 0), .int (x), .int (nI k)] (cd_b (cd_tb x k)) := by
  refine cd_enterRO (own := RX1) (by decide) rfl (Nat.le_of_ble_eq_true rfl) ?_
  intro p e s m below meth c ls hx hb hr hlocks hml hown hts hK hP hl
  have hl : lv_has ls 3 [(0, .ref (a 0)), (1, .int (x)), (2, .int (nI k))] := hl
  refine lv_iload_n hx hb dX1_has_0 rfl (lv_at hl 1 rfl) ?_
  refine lv_iload_n hx hb dX1_has_1 rfl (lv_at hl 2 rfl) ?_
  refine lv_ishr hx hb dX1_has_2 ?_
  refine lv_iconst (v := nI 1) hx hb dX1_has_3 (by decide) ?_
  refine lv_iand hx hb dX1_has_4 ?_
  refine cd_v (y := cd_b (cd_tb x k)) (cd_bit1 _ (by omega)) ?_
  refine lv_iconst (v := nI 1) hx hb dX1_has_5 (by decide) ?_
  refine cd_icmpb_ne1 (tgt := 13) hx hb dX1_has_6 (by decide) (fun c6 => ?_) (fun c6 => ?_)
  · refine lv_iconst (v := nI 0) hx hb dX1_has_13 (by decide) ?_
    refine cd_v (y := cd_b (cd_tb x k)) ((cd_b0 c6).symm) ?_
    exact cd_retZ hx hb hr hlocks dX1_has_14
  · refine lv_iconst (v := nI 1) hx hb dX1_has_9 (by decide) ?_
    refine lv_goto (tgt := 14) hx hb dX1_has_10 (by decide) ?_
    refine cd_v (y := cd_b (cd_tb x k)) ((cd_b1 c6).symm) ?_
    exact cd_retZ hx hb hr hlocks dX1_has_14
theorem kM_has {R0 : Room} {s : State} {args : Array Value} (hts : ∀ w ∈ lw_all, w.before args s = true) (h : (cd_rm 0).frames + 1 ≤ R0.frames ∧ 8 + (3 + 11) + (cd_rm 0).locals ≤ R0.locals) : CallW R0 s args RX1 RX1 45 yX1_has cX1_has 3 (some .boolean) (ws_ yX1_has cX1_has 3 (some .boolean)) (cd_rm 0) 0 0 2 := cwV 2 hts (lw_V q251 q253 qs19 q26 q254) rfl rfl rfl (by decide +kernel) h
theorem mM_hasN (l : Launch) (D : va_G) (a : Nat → Nat) (d : Nat → ClassId) (n : Nat) (K : Nat → Nat) (L : Nat → Nat) (R : Nat → Nat) (kn : Prop) (F : Nat → Nat) (T : Nat → Prop) (t : Nat) (k : Nat) (hk : k < 32) : cd_RO l yX1_has (ws_ yX1_has cX1_has 3 (some .boolean)) (cd_rm 0) D (cd_tM d) (cd_wM a d n K L R kn F T) [.ref (a 0), .int (nI t), .int (nI k)] (cd_b (t.testBit k = true)) := by
  rw [← cd_bc (cd_tbN hk)]
  exact mM_has l D a d n K L R kn F T (nI t) k hk
set_option maxHeartbeats 4000000 in
set_option maxRecDepth 100000 in
/-- is(i): in the list -/
theorem mM_is (l : Launch) (D : va_G) (a : Nat → Nat) (d : Nat → ClassId) (n : Nat) (K : Nat → Nat) (L : Nat → Nat) (R : Nat → Nat) (kn : Prop) (F : Nat → Nat) (T : Nat → Prop) (x : Int32) : cd_RO l yX1_is (ws_ yX1_is cX1_is 2 (some .boolean)) (cd_rm 0) D (cd_tM d) (cd_wM a d n K L R kn F T) [.ref (a 0), .int (x)] (cd_b (¬ (x < 0 ∨ nI n ≤ x))) := by
  refine cd_enterRO (own := RX1) (by decide) rfl (Nat.le_of_ble_eq_true rfl) ?_
  intro p e s m below meth c ls hx hb hr hlocks hml hown hts hK hP hl
  have hl : lv_has ls 2 [(0, .ref (a 0)), (1, .int (x))] := hl
  refine lv_iload_n hx hb dX1_is_0 rfl (lv_at hl 1 rfl) ?_
  refine lv_if_lt (tgt := 16) hx hb dX1_is_1 (by decide) (fun c1 => ?_) (fun c1 => ?_)
  · refine lv_iconst (v := nI 0) hx hb dX1_is_16 (by decide) ?_
    refine cd_v (y := cd_b (¬ (x < 0 ∨ nI n ≤ x))) ((cd_b0 (fun h => h (Or.inl c1))).symm) ?_
    exact cd_retZ hx hb hr hlocks dX1_is_17
  · refine lv_iload_n hx hb dX1_is_4 rfl (lv_at hl 1 rfl) ?_
    refine lv_aload_n hx hb dX1_is_5 rfl (lv_at hl 0 rfl) ?_
    refine gM_size hx hb hts hown hK hP dX1_is_6 ?_
    refine lv_icmp_ge (tgt := 16) hx hb dX1_is_9 (by decide) (fun c9 => ?_) (fun c9 => ?_)
    · refine lv_iconst (v := nI 0) hx hb dX1_is_16 (by decide) ?_
      refine cd_v (y := cd_b (¬ (x < 0 ∨ nI n ≤ x))) ((cd_b0 (fun h => h (Or.inr c9))).symm) ?_
      exact cd_retZ hx hb hr hlocks dX1_is_17
    · refine lv_iconst (v := nI 1) hx hb dX1_is_12 (by decide) ?_
      refine lv_goto (tgt := 17) hx hb dX1_is_13 (by decide) ?_
      refine cd_v (y := cd_b (¬ (x < 0 ∨ nI n ≤ x))) ((cd_b1 (fun h => h.elim c1 c9)).symm) ?_
      exact cd_retZ hx hb hr hlocks dX1_is_17
theorem kM_is {R0 : Room} {s : State} {args : Array Value} (hts : ∀ w ∈ lw_all, w.before args s = true) (h : (cd_rm 0).frames + 1 ≤ R0.frames ∧ 8 + (2 + 11) + (cd_rm 0).locals ≤ R0.locals) : CallW R0 s args RX1 RX1 41 yX1_is cX1_is 2 (some .boolean) (ws_ yX1_is cX1_is 2 (some .boolean)) (cd_rm 0) 0 0 1 := cwV 1 hts (lw_V q223 q225 qs15 q26 q226) rfl rfl rfl (by decide +kernel) h
set_option maxHeartbeats 4000000 in
set_option maxRecDepth 100000 in
/-- size() -/
theorem mM_size (l : Launch) (D : va_G) (a : Nat → Nat) (d : Nat → ClassId) (n : Nat) (K : Nat → Nat) (L : Nat → Nat) (R : Nat → Nat) (kn : Prop) (F : Nat → Nat) (T : Nat → Prop) : cd_RO l yX1_size (ws_ yX1_size cX1_size 1 (some .int)) (cd_rm 0) D (cd_tM d) (cd_wM a d n K L R kn F T) [.ref (a 0)] (nI n) := by
  refine cd_enterRO (own := RX1) (by decide) rfl (Nat.le_of_ble_eq_true rfl) ?_
  intro p e s m below meth c ls hx hb hr hlocks hml hown hts hK hP hl
  have hl : lv_has ls 1 [(0, .ref (a 0))] := hl
  refine lv_aload_n hx hb dX1_size_0 rfl (lv_at hl 0 rfl) ?_
  refine gM_size hx hb hts hown hK hP dX1_size_1 ?_
  exact cd_retI hx hb hr hlocks dX1_size_4
set_option maxHeartbeats 4000000 in
set_option maxRecDepth 100000 in
/-- count(set) -/
theorem mM_count (l : Launch) (D : va_G) (a : Nat → Nat) (d : Nat → ClassId) (n : Nat) (K : Nat → Nat) (L : Nat → Nat) (R : Nat → Nat) (kn : Prop) (F : Nat → Nat) (T : Nat → Prop) (q : Nat) (hn : n ≤ 11) : cd_RO l yX1_count (ws_ yX1_count cX1_count 4 (some .int)) (cd_rm 0) D (cd_tM d) (cd_wM a d n K L R kn F T) [.ref (a 0), .int (nI q)] (nI (cd_pc q n)) := by
  refine cd_enterRO (own := RX1) (by decide) rfl (Nat.le_of_ble_eq_true rfl) ?_
  intro p e s m below meth c ls hx hb hr hlocks hml hown hts hK hP hl
  have hl : lv_has ls 4 [(0, .ref (a 0)), (1, .int (nI q))] := hl
  refine lv_iconst (v := nI 0) hx hb dX1_count_0 (by decide) ?_
  refine cd_v (y := nI (cd_pc q 0)) (rfl) ?_
  refine lv_istore_n (lv' := [(2, .int (nI (cd_pc q 0))), (0, .ref (a 0)), (1, .int (nI q))]) hx hb dX1_count_1 rfl hl (by decide) rfl (fun ls hl => ?_)
  refine lv_iconst (v := nI 0) hx hb dX1_count_2 (by decide) ?_
  refine lv_istore_n (lv' := [(3, .int (nI 0)), (2, .int (nI (cd_pc q 0))), (0, .ref (a 0)), (1, .int (nI q))]) hx hb dX1_count_3 rfl hl (by decide) rfl (fun ls hl => ?_)
  refine cd_loopR (fun N_ ls_ => ∃ (i : Nat), N_ = n - i ∧ i ≤ n ∧ lv_has ls_ 4 [(0, .ref (a 0)), (1, .int (nI q)), (2, .int (nI (cd_pc q i))), (3, .int (nI i))]) ?_ _ ⟨0, rfl, (by omega), lv_sub hl [2, 3, 1, 0] rfl⟩
  intro N4 ls hI4 ih4
  obtain ⟨i, hN4, hi, hl⟩ := hI4
  refine lv_iload_n hx hb dX1_count_4 rfl (lv_at hl 3 rfl) ?_
  refine lv_aload_n hx hb dX1_count_5 rfl (lv_at hl 0 rfl) ?_
  refine gM_size hx hb hts hown hK hP dX1_count_6 ?_
  refine cd_icmp_ge (tgt := 26) (by omega) (by omega) hx hb dX1_count_9 (by decide) (fun c9 => ?_) (fun c9 => ?_)
  · refine lv_iload_n hx hb dX1_count_26 rfl (lv_at hl 2 rfl) ?_
    refine cd_v (y := nI (cd_pc q n)) (by rw [Nat.le_antisymm hi c9]) ?_
    exact cd_retI hx hb hr hlocks dX1_count_27
  · refine lv_iload_n hx hb dX1_count_12 rfl (lv_at hl 2 rfl) ?_
    refine lv_iload_n hx hb dX1_count_13 rfl (lv_at hl 1 rfl) ?_
    refine lv_iload_n hx hb dX1_count_14 rfl (lv_at hl 3 rfl) ?_
    refine lv_ishr hx hb dX1_count_15 ?_
    refine lv_iconst (v := nI 1) hx hb dX1_count_16 (by decide) ?_
    refine lv_iand hx hb dX1_count_17 ?_
    refine cd_v (y := nI ((q.testBit i).toNat)) (cd_bitNN (by omega)) ?_
    refine lv_iadd hx hb dX1_count_18 ?_
    refine cd_v (y := nI (cd_pc q i + ((q.testBit i).toNat))) (nI_add _ _) ?_
    refine cd_v (y := nI (cd_pc q (i + 1))) (rfl) ?_
    refine lv_istore_n (lv' := [(2, .int (nI (cd_pc q (i + 1)))), (0, .ref (a 0)), (1, .int (nI q)), (3, .int (nI i))]) hx hb dX1_count_19 rfl hl (by decide) rfl (fun ls hl => ?_)
    refine lv_iinc (v := nI (i + 1)) (lv' := [(3, .int (nI (i + 1))), (2, .int (nI (cd_pc q (i + 1)))), (0, .ref (a 0)), (1, .int (nI q))]) hx hb dX1_count_20 hl (k := 3) rfl (cd_inc _) (by decide) rfl (fun ls hl => ?_)
    refine lv_goto (tgt := 4) hx hb dX1_count_23 (by decide) ?_
    exact ih4 _ _ (by omega) ⟨i + 1, rfl, (by omega), lv_sub hl [2, 3, 1, 0] rfl⟩
theorem kM_count {R0 : Room} {s : State} {args : Array Value} (hts : ∀ w ∈ lw_all, w.before args s = true) (h : (cd_rm 0).frames + 1 ≤ R0.frames ∧ 8 + (4 + 11) + (cd_rm 0).locals ≤ R0.locals) : CallW R0 s args RX1 RX1 66 yX1_count cX1_count 4 (some .int) (ws_ yX1_count cX1_count 4 (some .int)) (cd_rm 0) 0 0 1 := cwV 1 hts (lw_V q279 q281 qs22 q26 q282) rfl rfl rfl (by decide +kernel) h
end
section
set_option maxHeartbeats 4000000 in
set_option maxRecDepth 100000 in
/-- find(sort, a, b) -/
theorem mM_find (l : Launch) (D : va_G) (a : Nat → Nat) (d : Nat → ClassId) (n : Nat) (K : Nat → Nat) (L : Nat → Nat) (R : Nat → Nat) (kn : Prop) (F : Nat → Nat) (T : Nat → Prop) (w x y : Nat) (v : Int32) (hwf : cd_wf n K L R) (hv : cd_fi n K L R w x y v) (hkw : w < 128) (hkx : x < 128) (hky : y < 128) : cd_RO l yX1_find (ws_ yX1_find cX1_find 5 (some .int)) (cd_rm 0) D (cd_tM d) (cd_wM a d n K L R kn F T) [.ref (a 0), .int (nI w), .int (nI x), .int (nI y)] (v) := by
  refine cd_enterRO (own := RX1) (by decide) rfl (Nat.le_of_ble_eq_true rfl) ?_
  intro p e s m below meth c ls hx hb hr hlocks hml hown hts hK hP hl
  have hl : lv_has ls 5 [(0, .ref (a 0)), (1, .int (nI w)), (2, .int (nI x)), (3, .int (nI y))] := hl
  have hn := hwf.1
  have hp11 := cd_p11 hn
  have hp1 := cd_p1 n
  refine lv_iconst (v := nI 0) hx hb dX1_find_0 (by decide) ?_
  refine lv_istore (lv' := [(4, .int (nI 0)), (0, .ref (a 0)), (1, .int (nI w)), (2, .int (nI x)), (3, .int (nI y))]) hx hb dX1_find_1 hl (by decide) rfl (fun ls hl => ?_)
  refine cd_loopR (fun N_ ls_ => ∃ (i : Nat), N_ = n - i ∧ i ≤ n ∧ (∀ j, j < i → ¬ cd_mt K L R w x y j) ∧ lv_has ls_ 5 [(0, .ref (a 0)), (1, .int (nI w)), (2, .int (nI x)), (3, .int (nI y)), (4, .int (nI i))]) ?_ _ ⟨0, rfl, (by omega), cd_all0, lv_sub hl [1, 2, 3, 4, 0] rfl⟩
  intro N3 ls hI3 ih3
  obtain ⟨i, hN3, hi, hno, hl⟩ := hI3
  refine lv_iload hx hb dX1_find_3 (lv_at hl 4 rfl) ?_
  refine lv_aload_n hx hb dX1_find_5 rfl (lv_at hl 0 rfl) ?_
  refine gM_size hx hb hts hown hK hP dX1_find_6 ?_
  refine cd_icmp_ge (tgt := 54) (by omega) (by omega) hx hb dX1_find_9 (by decide) (fun c9 => ?_) (fun c9 => ?_)
  · refine lv_iconst (v := (-1)) hx hb dX1_find_54 (by decide) ?_
    refine cd_v (y := v) (cd_fi_0 hv (fun j hj => hno j (by omega))) ?_
    exact cd_retI hx hb hr hlocks dX1_find_55
  · obtain ⟨w1, w2, w3, w4⟩ := hwf.2 i c9
    refine lv_aload_n hx hb dX1_find_12 rfl (lv_at hl 0 rfl) ?_
    refine gM_sorts hx hb hts hown hK hP dX1_find_13 ?_
    refine lv_iload hx hb dX1_find_16 (lv_at hl 4 rfl) ?_
    refine lM_sorts hx hb hK hP (by omega) dX1_find_18 ?_
    refine lv_iload_n hx hb dX1_find_19 rfl (lv_at hl 1 rfl) ?_
    refine cd_icmp_ne (tgt := 48) (by omega) (by omega) hx hb dX1_find_20 (by decide) (fun c20 => ?_) (fun c20 => ?_)
    · refine lv_iinc (v := nI (i + 1)) (lv' := [(4, .int (nI (i + 1))), (0, .ref (a 0)), (1, .int (nI w)), (2, .int (nI x)), (3, .int (nI y))]) hx hb dX1_find_48 hl (k := 4) rfl (cd_inc _) (by decide) rfl (fun ls hl => ?_)
      refine lv_goto (tgt := 3) hx hb dX1_find_51 (by decide) ?_
      exact ih3 _ _ (by omega) ⟨i + 1, rfl, (by omega), cd_alls hno (fun h => c20 h.1), lv_sub hl [1, 2, 3, 4, 0] rfl⟩
    · refine lv_aload_n hx hb dX1_find_23 rfl (lv_at hl 0 rfl) ?_
      refine gM_lefts hx hb hts hown hK hP dX1_find_24 ?_
      refine lv_iload hx hb dX1_find_27 (lv_at hl 4 rfl) ?_
      refine lM_lefts hx hb hK hP (by omega) dX1_find_29 ?_
      refine lv_iload_n hx hb dX1_find_30 rfl (lv_at hl 2 rfl) ?_
      refine cd_icmp_ne (tgt := 48) (by omega) (by omega) hx hb dX1_find_31 (by decide) (fun c31 => ?_) (fun c31 => ?_)
      · refine lv_iinc (v := nI (i + 1)) (lv' := [(4, .int (nI (i + 1))), (0, .ref (a 0)), (1, .int (nI w)), (2, .int (nI x)), (3, .int (nI y))]) hx hb dX1_find_48 hl (k := 4) rfl (cd_inc _) (by decide) rfl (fun ls hl => ?_)
        refine lv_goto (tgt := 3) hx hb dX1_find_51 (by decide) ?_
        exact ih3 _ _ (by omega) ⟨i + 1, rfl, (by omega), cd_alls hno (fun h => c31 h.2.1), lv_sub hl [1, 2, 3, 4, 0] rfl⟩
      · refine lv_aload_n hx hb dX1_find_34 rfl (lv_at hl 0 rfl) ?_
        refine gM_rights hx hb hts hown hK hP dX1_find_35 ?_
        refine lv_iload hx hb dX1_find_38 (lv_at hl 4 rfl) ?_
        refine lM_rights hx hb hK hP (by omega) dX1_find_40 ?_
        refine lv_iload_n hx hb dX1_find_41 rfl (lv_at hl 3 rfl) ?_
        refine cd_icmp_ne (tgt := 48) (by omega) (by omega) hx hb dX1_find_42 (by decide) (fun c42 => ?_) (fun c42 => ?_)
        · refine lv_iinc (v := nI (i + 1)) (lv' := [(4, .int (nI (i + 1))), (0, .ref (a 0)), (1, .int (nI w)), (2, .int (nI x)), (3, .int (nI y))]) hx hb dX1_find_48 hl (k := 4) rfl (cd_inc _) (by decide) rfl (fun ls hl => ?_)
          refine lv_goto (tgt := 3) hx hb dX1_find_51 (by decide) ?_
          exact ih3 _ _ (by omega) ⟨i + 1, rfl, (by omega), cd_alls hno (fun h => c42 h.2.2), lv_sub hl [1, 2, 3, 4, 0] rfl⟩
        · refine lv_iload hx hb dX1_find_45 (lv_at hl 4 rfl) ?_
          refine cd_v (y := v) (cd_fi_1 hv c9 ⟨c20, c31, c42⟩ hno) ?_
          exact cd_retI hx hb hr hlocks dX1_find_47
theorem kM_find {R0 : Room} {s : State} {args : Array Value} (hts : ∀ w ∈ lw_all, w.before args s = true) (h : (cd_rm 0).frames + 1 ≤ R0.frames ∧ 8 + (5 + 11) + (cd_rm 0).locals ≤ R0.locals) : CallW R0 s args RX1 RX1 30 yX1_find cX1_find 5 (some .int) (ws_ yX1_find cX1_find 5 (some .int)) (cd_rm 0) 0 0 3 := cwV 3 hts (lw_V q211 q213 qs14 q26 q214) rfl rfl rfl (by decide +kernel) h
set_option maxHeartbeats 4000000 in
set_option maxRecDepth 100000 in
/-- put(sort, a, b) -/
theorem mM_put (l : Launch) (D : va_G) (a : Nat → Nat) (d : Nat → ClassId) (n : Nat) (K : Nat → Nat) (L : Nat → Nat) (R : Nat → Nat) (kn : Prop) (F : Nat → Nat) (T : Nat → Prop) (w x y : Nat) (hwf : cd_wf n K L R) (hkw : w < 128) (hkx : x < 128) (hky : y < 128) : cd_RW (S := Nat × (Nat → Nat) × (Nat → Nat) × (Nat → Nat) × Prop) l yX1_put (ws_ yX1_put cX1_put 5 (some .int)) (cd_rm 1) D (cd_tM d) (cd_wM a d n K L R kn F T) [.ref (a 0), .int (nI w), .int (nI x), .int (nI y)] (cd_pu n K L R kn w x y) (fun u => cd_wM a d u.1 u.2.1 u.2.2.1 u.2.2.2.1 u.2.2.2.2 F T) := by
  refine cd_enterRW (own := RX1) (by decide) rfl (Nat.le_of_ble_eq_true rfl) ?_
  intro A p e s m below meth c ls hx hb hr hlocks hml hown hts hK hP hl hD hA hS
  have hl : lv_has ls 5 [(0, .ref (a 0)), (1, .int (nI w)), (2, .int (nI x)), (3, .int (nI y))] := hl
  have hn := hwf.1
  have hp11 := cd_p11 hn
  have hp1 := cd_p1 n
  obtain ⟨v, hv⟩ := cd_fi_ex n K L R w x y
  refine lv_aload_n hx hb dX1_put_0 rfl (lv_at hl 0 rfl) ?_
  refine lv_iload_n hx hb dX1_put_1 rfl (lv_at hl 1 rfl) ?_
  refine lv_iload_n hx hb dX1_put_2 rfl (lv_at hl 2 rfl) ?_
  refine lv_iload_n hx hb dX1_put_3 rfl (lv_at hl 3 rfl) ?_
  refine cd_callRO ⟨hx, hb, hml, hown, hts⟩ (mM_find l D a d n K L R kn F T w x y v hwf hv hkw hkx hky) (kM_find hts ⟨Nat.le_of_ble_eq_true rfl, Nat.le_of_ble_eq_true rfl⟩) rfl rfl rfl hP hK rfl hl.1 rfl (Nat.le_of_ble_eq_true rfl) dX1_put_4 ⟨Nat.zero_le _, Nat.zero_le _⟩ ?_
  refine lv_istore (lv' := [(4, .int (v)), (0, .ref (a 0)), (1, .int (nI w)), (2, .int (nI x)), (3, .int (nI y))]) hx hb dX1_put_7 hl (by decide) rfl (fun ls hl => ?_)
  refine lv_iload hx hb dX1_put_9 (lv_at hl 0 rfl) ?_
  refine lv_if_lt (tgt := 17) hx hb dX1_put_11 (by decide) (fun c11 => ?_) (fun c11 => ?_)
  · have hno := cd_fi_n hn hv c11
    refine lv_aload_n hx hb dX1_put_17 rfl (lv_at hl 1 rfl) ?_
    refine gM_size hx hb hts hown hK hP dX1_put_18 ?_
    refine lv_bipush (v := nI 11) hx hb dX1_put_21 (by decide) ?_
    refine cd_icmp_ne (tgt := 29) (by omega) (by omega) hx hb dX1_put_23 (by decide) (fun c23 => ?_) (fun c23 => ?_)
    · refine lv_aload_n hx hb dX1_put_29 rfl (lv_at hl 1 rfl) ?_
      refine gM_sorts hx hb hts hown hK hP dX1_put_30 ?_
      refine lv_aload_n hx hb dX1_put_33 rfl (lv_at hl 1 rfl) ?_
      refine gM_size hx hb hts hown hK hP dX1_put_34 ?_
      refine lv_iload_n hx hb dX1_put_37 rfl (lv_at hl 2 rfl) ?_
      refine tM_sorts hx hb hK hP hD hS (by omega) dX1_put_38 (fun H locs hP hD hS => ?_)
      refine lv_aload_n hx hb dX1_put_39 rfl (lv_at hl 1 rfl) ?_
      refine gM_lefts hx hb hts hown hK hP dX1_put_40 ?_
      refine lv_aload_n hx hb dX1_put_43 rfl (lv_at hl 1 rfl) ?_
      refine gM_size hx hb hts hown hK hP dX1_put_44 ?_
      refine lv_iload_n hx hb dX1_put_47 rfl (lv_at hl 3 rfl) ?_
      refine tM_lefts hx hb hK hP hD hS (by omega) dX1_put_48 (fun H locs hP hD hS => ?_)
      refine lv_aload_n hx hb dX1_put_49 rfl (lv_at hl 1 rfl) ?_
      refine gM_rights hx hb hts hown hK hP dX1_put_50 ?_
      refine lv_aload_n hx hb dX1_put_53 rfl (lv_at hl 1 rfl) ?_
      refine gM_size hx hb hts hown hK hP dX1_put_54 ?_
      refine lv_iload_n hx hb dX1_put_57 rfl (lv_at hl 4 rfl) ?_
      refine tM_rights hx hb hK hP hD hS (by omega) dX1_put_58 (fun H locs hP hD hS => ?_)
      refine lv_aload_n hx hb dX1_put_59 rfl (lv_at hl 1 rfl) ?_
      refine lv_dup hx hb dX1_put_60 rfl ?_
      refine gM_size hx hb hts hown hK hP dX1_put_61 ?_
      refine lv_iconst (v := nI 1) hx hb dX1_put_64 (by decide) ?_
      refine lv_iadd hx hb dX1_put_65 ?_
      refine cd_v (y := nI (n + 1)) (nI_add _ _) ?_
      refine sM_size hx hb hts hown hK hP hD hS dX1_put_66 (fun H locs hP hD hS => ?_)
      refine lv_aload_n hx hb dX1_put_69 rfl (lv_at hl 1 rfl) ?_
      refine lv_iconst (v := nI 0) hx hb dX1_put_70 (by decide) ?_
      refine cd_v (y := cd_b False) (cd_b0 (fun h => h)).symm ?_
      refine sM_known hx hb hts hown hK hP hD hS dX1_put_71 (fun H locs hP hD hS => ?_)
      refine lv_aload_n hx hb dX1_put_74 rfl (lv_at hl 1 rfl) ?_
      refine gM_size hx hb hts hown hK hP dX1_put_75 ?_
      refine lv_iconst (v := nI 1) hx hb dX1_put_78 (by decide) ?_
      refine lv_isub hx hb dX1_put_79 ?_
      refine cd_v (y := nI (n + 1 - 1)) (pk_sub (by omega)) ?_
      exact cd_retW (n + 1, cd_up K n w, cd_up L n x, cd_up R n y, False) hx hb hr hlocks (Or.inr (Or.inr ⟨hno, by omega, by rw [Nat.add_sub_cancel], rfl⟩)) hP hD hS dX1_put_80
    · refine lv_bipush (v := (-2)) hx hb dX1_put_26 (by decide) ?_
      exact cd_retW (n, K, L, R, kn) hx hb hr hlocks (Or.inr (Or.inl ⟨hno, c23, rfl, rfl⟩)) hP hD hS dX1_put_28
  · obtain ⟨i, hi, hmt, hno, rfl⟩ := cd_fi_p hv c11
    refine lv_iload hx hb dX1_put_14 (lv_at hl 0 rfl) ?_
    exact cd_retW (n, K, L, R, kn) hx hb hr hlocks (Or.inl ⟨i, hi, hmt, hno, rfl, rfl⟩) hP hD hS dX1_put_16
theorem kM_put {R0 : Room} {s : State} {args : Array Value} (hts : ∀ w ∈ lw_all, w.before args s = true) (h : (cd_rm 1).frames + 1 ≤ R0.frames ∧ 8 + (5 + 11) + (cd_rm 1).locals ≤ R0.locals) : CallW R0 s args RX1 RX1 38 yX1_put cX1_put 5 (some .int) (ws_ yX1_put cX1_put 5 (some .int)) (cd_rm 1) 0 0 3 := cwV 3 hts (lw_V q207 q209 qs13 q26 q210) rfl rfl rfl (by decide +kernel) h
set_option maxHeartbeats 4000000 in
set_option maxRecDepth 100000 in
/-- atom(a) -/
theorem mM_atom (l : Launch) (D : va_G) (a : Nat → Nat) (d : Nat → ClassId) (n : Nat) (K : Nat → Nat) (L : Nat → Nat) (R : Nat → Nat) (kn : Prop) (F : Nat → Nat) (T : Nat → Prop) (x : Int32) (hwf : cd_wf n K L R) : cd_RW (S := Nat × (Nat → Nat) × (Nat → Nat) × (Nat → Nat) × Prop) l yX1_atom (ws_ yX1_atom cX1_atom 2 (some .int)) (cd_rm 2) D (cd_tM d) (cd_wM a d n K L R kn F T) [.ref (a 0), .int (x)] (cd_at n K L R kn x) (fun u => cd_wM a d u.1 u.2.1 u.2.2.1 u.2.2.2.1 u.2.2.2.2 F T) := by
  refine cd_enterRW (own := RX1) (by decide) rfl (Nat.le_of_ble_eq_true rfl) ?_
  intro A p e s m below meth c ls hx hb hr hlocks hml hown hts hK hP hl hD hA hS
  have hl : lv_has ls 2 [(0, .ref (a 0)), (1, .int (x))] := hl
  have hn := hwf.1
  have hp11 := cd_p11 hn
  have hp1 := cd_p1 n
  refine lv_iload_n hx hb dX1_atom_0 rfl (lv_at hl 1 rfl) ?_
  refine lv_if_lt (tgt := 9) hx hb dX1_atom_1 (by decide) (fun c1 => ?_) (fun c1 => ?_)
  · refine lv_iconst (v := (-1)) hx hb dX1_atom_9 (by decide) ?_
    refine lv_goto (tgt := 20) hx hb dX1_atom_10 (by decide) ?_
    exact cd_retW (n, K, L, R, kn) hx hb hr hlocks (Or.inl ⟨Or.inl c1, rfl, rfl⟩) hP hD hS dX1_atom_20
  · refine lv_iload_n hx hb dX1_atom_4 rfl (lv_at hl 1 rfl) ?_
    refine lv_iconst (v := nI 3) hx hb dX1_atom_5 (by decide) ?_
    refine lv_icmp_le (tgt := 13) hx hb dX1_atom_6 (by decide) (fun c6 => ?_) (fun c6 => ?_)
    · obtain ⟨k, hk, rfl⟩ := cd_ix3 c1 c6
      refine lv_aload_n hx hb dX1_atom_13 rfl (lv_at hl 0 rfl) ?_
      refine lv_iconst (v := nI 3) hx hb dX1_atom_14 (by decide) ?_
      refine lv_iload_n hx hb dX1_atom_15 rfl (lv_at hl 1 rfl) ?_
      refine lv_iconst (v := nI 0) hx hb dX1_atom_16 (by decide) ?_
      refine cd_callRW ⟨hx, hb, hml, hown, hts⟩ (mM_put l D a d n K L R kn F T 3 k 0 hwf (by omega) (by omega) (by omega)) (kM_put hts ⟨Nat.le_of_ble_eq_true rfl, Nat.le_of_ble_eq_true rfl⟩) rfl rfl rfl hP hK hD hS hA rfl hl.1 rfl (Nat.le_of_ble_eq_true rfl) dX1_atom_17 ⟨Nat.zero_le _, Nat.zero_le _⟩ (fun r17 u17 H locs hu17 hP hD hS => ?_)
      exact cd_retW u17 hx hb hr hlocks (Or.inr ⟨k, hk, rfl, hu17⟩) hP hD hS dX1_atom_20
    · refine lv_iconst (v := (-1)) hx hb dX1_atom_9 (by decide) ?_
      refine lv_goto (tgt := 20) hx hb dX1_atom_10 (by decide) ?_
      exact cd_retW (n, K, L, R, kn) hx hb hr hlocks (Or.inl ⟨Or.inr (cd_le3 c6), rfl, rfl⟩) hP hD hS dX1_atom_20
set_option maxHeartbeats 4000000 in
set_option maxRecDepth 100000 in
/-- falsum() -/
theorem mM_falsum (l : Launch) (D : va_G) (a : Nat → Nat) (d : Nat → ClassId) (n : Nat) (K : Nat → Nat) (L : Nat → Nat) (R : Nat → Nat) (kn : Prop) (F : Nat → Nat) (T : Nat → Prop) (hwf : cd_wf n K L R) : cd_RW (S := Nat × (Nat → Nat) × (Nat → Nat) × (Nat → Nat) × Prop) l yX1_falsum (ws_ yX1_falsum cX1_falsum 1 (some .int)) (cd_rm 2) D (cd_tM d) (cd_wM a d n K L R kn F T) [.ref (a 0)] (cd_pu n K L R kn 4 0 0) (fun u => cd_wM a d u.1 u.2.1 u.2.2.1 u.2.2.2.1 u.2.2.2.2 F T) := by
  refine cd_enterRW (own := RX1) (by decide) rfl (Nat.le_of_ble_eq_true rfl) ?_
  intro A p e s m below meth c ls hx hb hr hlocks hml hown hts hK hP hl hD hA hS
  have hl : lv_has ls 1 [(0, .ref (a 0))] := hl
  have hn := hwf.1
  have hp11 := cd_p11 hn
  have hp1 := cd_p1 n
  refine lv_aload_n hx hb dX1_falsum_0 rfl (lv_at hl 0 rfl) ?_
  refine lv_iconst (v := nI 4) hx hb dX1_falsum_1 (by decide) ?_
  refine lv_iconst (v := nI 0) hx hb dX1_falsum_2 (by decide) ?_
  refine lv_iconst (v := nI 0) hx hb dX1_falsum_3 (by decide) ?_
  refine cd_callRW ⟨hx, hb, hml, hown, hts⟩ (mM_put l D a d n K L R kn F T 4 0 0 hwf (by omega) (by omega) (by omega)) (kM_put hts ⟨Nat.le_of_ble_eq_true rfl, Nat.le_of_ble_eq_true rfl⟩) rfl rfl rfl hP hK hD hS hA rfl hl.1 rfl (Nat.le_of_ble_eq_true rfl) dX1_falsum_4 ⟨Nat.zero_le _, Nat.zero_le _⟩ (fun r4 u4 H locs hu4 hP hD hS => ?_)
  exact cd_retW u4 hx hb hr hlocks (hu4) hP hD hS dX1_falsum_7
set_option maxHeartbeats 4000000 in
set_option maxRecDepth 100000 in
/-- join(op, i, j) -/
theorem mM_join (l : Launch) (D : va_G) (a : Nat → Nat) (d : Nat → ClassId) (n : Nat) (K : Nat → Nat) (L : Nat → Nat) (R : Nat → Nat) (kn : Prop) (F : Nat → Nat) (T : Nat → Prop) (x y z : Int32) (hwf : cd_wf n K L R) : cd_RW (S := Nat × (Nat → Nat) × (Nat → Nat) × (Nat → Nat) × Prop) l yX1_join (ws_ yX1_join cX1_join 4 (some .int)) (cd_rm 2) D (cd_tM d) (cd_wM a d n K L R kn F T) [.ref (a 0), .int (x), .int (y), .int (z)] (cd_jo n K L R kn x y z) (fun u => cd_wM a d u.1 u.2.1 u.2.2.1 u.2.2.2.1 u.2.2.2.2 F T) := by
  refine cd_enterRW (own := RX1) (by decide) rfl (Nat.le_of_ble_eq_true rfl) ?_
  intro A p e s m below meth c ls hx hb hr hlocks hml hown hts hK hP hl hD hA hS
  have hl : lv_has ls 4 [(0, .ref (a 0)), (1, .int (x)), (2, .int (y)), (3, .int (z))] := hl
  have hn := hwf.1
  have hp11 := cd_p11 hn
  have hp1 := cd_p1 n
  refine lv_iload_n hx hb dX1_join_0 rfl (lv_at hl 1 rfl) ?_
  refine lv_if_lt (tgt := 25) hx hb dX1_join_1 (by decide) (fun c1 => ?_) (fun c1 => ?_)
  · refine lv_iconst (v := (-1)) hx hb dX1_join_25 (by decide) ?_
    refine lv_goto (tgt := 36) hx hb dX1_join_26 (by decide) ?_
    exact cd_retW (n, K, L, R, kn) hx hb hr hlocks (Or.inl ⟨Or.inl (Or.inl c1), rfl, rfl⟩) hP hD hS dX1_join_36
  · refine lv_iload_n hx hb dX1_join_4 rfl (lv_at hl 1 rfl) ?_
    refine lv_iconst (v := nI 2) hx hb dX1_join_5 (by decide) ?_
    refine lv_icmp_gt (tgt := 25) hx hb dX1_join_6 (by decide) (fun c6 => ?_) (fun c6 => ?_)
    · refine lv_iconst (v := (-1)) hx hb dX1_join_25 (by decide) ?_
      refine lv_goto (tgt := 36) hx hb dX1_join_26 (by decide) ?_
      exact cd_retW (n, K, L, R, kn) hx hb hr hlocks (Or.inl ⟨Or.inl (Or.inr c6), rfl, rfl⟩) hP hD hS dX1_join_36
    · refine lv_aload_n hx hb dX1_join_9 rfl (lv_at hl 0 rfl) ?_
      refine lv_iload_n hx hb dX1_join_10 rfl (lv_at hl 2 rfl) ?_
      refine cd_callRO ⟨hx, hb, hml, hown, hts⟩ (mM_is l D a d n K L R kn F T y) (kM_is hts ⟨Nat.le_of_ble_eq_true rfl, Nat.le_of_ble_eq_true rfl⟩) rfl rfl rfl hP hK rfl hl.1 rfl (Nat.le_of_ble_eq_true rfl) dX1_join_11 ⟨Nat.zero_le _, Nat.zero_le _⟩ ?_
      refine cd_ifb_eq (tgt := 25) hx hb dX1_join_14 (by decide) (fun c14 => ?_) (fun c14 => ?_)
      · refine lv_iconst (v := (-1)) hx hb dX1_join_25 (by decide) ?_
        refine lv_goto (tgt := 36) hx hb dX1_join_26 (by decide) ?_
        exact cd_retW (n, K, L, R, kn) hx hb hr hlocks (Or.inl ⟨Or.inr (Or.inl (Classical.not_not.mp c14)), rfl, rfl⟩) hP hD hS dX1_join_36
      · refine lv_aload_n hx hb dX1_join_17 rfl (lv_at hl 0 rfl) ?_
        refine lv_iload_n hx hb dX1_join_18 rfl (lv_at hl 3 rfl) ?_
        refine cd_callRO ⟨hx, hb, hml, hown, hts⟩ (mM_is l D a d n K L R kn F T z) (kM_is hts ⟨Nat.le_of_ble_eq_true rfl, Nat.le_of_ble_eq_true rfl⟩) rfl rfl rfl hP hK rfl hl.1 rfl (Nat.le_of_ble_eq_true rfl) dX1_join_19 ⟨Nat.zero_le _, Nat.zero_le _⟩ ?_
        refine cd_ifb_ne (tgt := 29) hx hb dX1_join_22 (by decide) (fun c22 => ?_) (fun c22 => ?_)
        · obtain ⟨k, hk, rfl⟩ := cd_ixg (n := 2) (by decide) c1 c6
          obtain ⟨i, hi, rfl⟩ := cd_ix hn c14
          obtain ⟨j, hj, rfl⟩ := cd_ix hn c22
          refine lv_aload_n hx hb dX1_join_29 rfl (lv_at hl 0 rfl) ?_
          refine lv_iload_n hx hb dX1_join_30 rfl (lv_at hl 1 rfl) ?_
          refine lv_iload_n hx hb dX1_join_31 rfl (lv_at hl 2 rfl) ?_
          refine lv_iload_n hx hb dX1_join_32 rfl (lv_at hl 3 rfl) ?_
          refine cd_callRW ⟨hx, hb, hml, hown, hts⟩ (mM_put l D a d n K L R kn F T k i j hwf (by omega) (by omega) (by omega)) (kM_put hts ⟨Nat.le_of_ble_eq_true rfl, Nat.le_of_ble_eq_true rfl⟩) rfl rfl rfl hP hK hD hS hA rfl hl.1 rfl (Nat.le_of_ble_eq_true rfl) dX1_join_33 ⟨Nat.zero_le _, Nat.zero_le _⟩ (fun r33 u33 H locs hu33 hP hD hS => ?_)
          exact cd_retW u33 hx hb hr hlocks (Or.inr ⟨k, i, j, hk, rfl, hi, rfl, hj, rfl, hu33⟩) hP hD hS dX1_join_36
        · refine lv_iconst (v := (-1)) hx hb dX1_join_25 (by decide) ?_
          refine lv_goto (tgt := 36) hx hb dX1_join_26 (by decide) ?_
          exact cd_retW (n, K, L, R, kn) hx hb hr hlocks (Or.inl ⟨Or.inr (Or.inr (Classical.not_not.mp c22)), rfl, rfl⟩) hP hD hS dX1_join_36
set_option maxHeartbeats 4000000 in
set_option maxRecDepth 100000 in
/-- drop() -/
theorem mM_drop (l : Launch) (D : va_G) (a : Nat → Nat) (d : Nat → ClassId) (n : Nat) (K : Nat → Nat) (L : Nat → Nat) (R : Nat → Nat) (kn : Prop) (F : Nat → Nat) (T : Nat → Prop) (hn : n ≤ 11) : cd_RW (S := Nat × (Nat → Nat) × (Nat → Nat) × (Nat → Nat) × Prop) l yX1_drop (ws_ yX1_drop cX1_drop 1 (some .int)) (cd_rm 0) D (cd_tM d) (cd_wM a d n K L R kn F T) [.ref (a 0)] (cd_dr n K L R kn) (fun u => cd_wM a d u.1 u.2.1 u.2.2.1 u.2.2.2.1 u.2.2.2.2 F T) := by
  refine cd_enterRW (own := RX1) (by decide) rfl (Nat.le_of_ble_eq_true rfl) ?_
  intro A p e s m below meth c ls hx hb hr hlocks hml hown hts hK hP hl hD hA hS
  have hl : lv_has ls 1 [(0, .ref (a 0))] := hl
  have hp11 := cd_p11 hn
  have hp1 := cd_p1 n
  refine lv_aload_n hx hb dX1_drop_0 rfl (lv_at hl 0 rfl) ?_
  refine gM_size hx hb hts hown hK hP dX1_drop_1 ?_
  refine cd_if_ne (tgt := 10) (by omega) hx hb dX1_drop_4 (by decide) (fun c4 => ?_) (fun c4 => ?_)
  · refine lv_aload_n hx hb dX1_drop_10 rfl (lv_at hl 0 rfl) ?_
    refine lv_dup hx hb dX1_drop_11 rfl ?_
    refine gM_size hx hb hts hown hK hP dX1_drop_12 ?_
    refine lv_iconst (v := nI 1) hx hb dX1_drop_15 (by decide) ?_
    refine lv_isub hx hb dX1_drop_16 ?_
    refine cd_v (y := nI (n - 1)) (pk_sub (by omega)) ?_
    refine sM_size hx hb hts hown hK hP hD hS dX1_drop_17 (fun H locs hP hD hS => ?_)
    refine lv_aload_n hx hb dX1_drop_20 rfl (lv_at hl 0 rfl) ?_
    refine lv_iconst (v := nI 0) hx hb dX1_drop_21 (by decide) ?_
    refine cd_v (y := cd_b False) (cd_b0 (fun h => h)).symm ?_
    refine sM_known hx hb hts hown hK hP hD hS dX1_drop_22 (fun H locs hP hD hS => ?_)
    refine lv_aload_n hx hb dX1_drop_25 rfl (lv_at hl 0 rfl) ?_
    refine gM_size hx hb hts hown hK hP dX1_drop_26 ?_
    exact cd_retW (n - 1, K, L, R, False) hx hb hr hlocks (Or.inr ⟨by omega, rfl, rfl⟩) hP hD hS dX1_drop_29
  · refine lv_bipush (v := (-4)) hx hb dX1_drop_7 (by decide) ?_
    exact cd_retW (n, K, L, R, kn) hx hb hr hlocks (Or.inl ⟨c4, rfl, rfl⟩) hP hD hS dX1_drop_9
end
section
set_option maxHeartbeats 4000000 in
set_option maxRecDepth 100000 in
/-- with(set, a, now) -/
theorem mM_with (l : Launch) (D : va_G) (a : Nat → Nat) (d : Nat → ClassId) (n : Nat) (K : Nat → Nat) (L : Nat → Nat) (R : Nat → Nat) (kn : Prop) (F : Nat → Nat) (T : Nat → Prop) (t x v : Nat) (hkx : x < 31) (hlt : t ||| 2 ^ x < 2048) : cd_RO l yX1_with (ws_ yX1_with cX1_with 4 (some .int)) (cd_rm 1) D (cd_tM d) (cd_wM a d n K L R kn F T) [.ref (a 0), .int (nI t), .int (nI x), .int (nI v)] (nI (cd_wi F t x v)) := by
  refine cd_enterRO (own := RX1) (by decide) rfl (Nat.le_of_ble_eq_true rfl) ?_
  intro p e s m below meth c ls hx hb hr hlocks hml hown hts hK hP hl
  have hl : lv_has ls 4 [(0, .ref (a 0)), (1, .int (nI t)), (2, .int (nI x)), (3, .int (nI v))] := hl
  refine lv_aload_n hx hb dX1_with_0 rfl (lv_at hl 0 rfl) ?_
  refine lv_iload_n hx hb dX1_with_1 rfl (lv_at hl 1 rfl) ?_
  refine lv_iload_n hx hb dX1_with_2 rfl (lv_at hl 2 rfl) ?_
  refine cd_callRO ⟨hx, hb, hml, hown, hts⟩ (mM_hasN l D a d n K L R kn F T t x (by omega)) (kM_has hts ⟨Nat.le_of_ble_eq_true rfl, Nat.le_of_ble_eq_true rfl⟩) rfl rfl rfl hP hK rfl hl.1 rfl (Nat.le_of_ble_eq_true rfl) dX1_with_3 ⟨Nat.zero_le _, Nat.zero_le _⟩ ?_
  refine cd_ifb_eq (tgt := 13) hx hb dX1_with_6 (by decide) (fun c6 => ?_) (fun c6 => ?_)
  · refine lv_aload_n hx hb dX1_with_13 rfl (lv_at hl 0 rfl) ?_
    refine gM_follow hx hb hts hown hK hP dX1_with_14 ?_
    refine lv_iload_n hx hb dX1_with_17 rfl (lv_at hl 1 rfl) ?_
    refine lv_iconst (v := nI 1) hx hb dX1_with_18 (by decide) ?_
    refine lv_iload_n hx hb dX1_with_19 rfl (lv_at hl 2 rfl) ?_
    refine lv_ishl hx hb dX1_with_20 ?_
    refine cd_v (y := nI (2 ^ x)) (cd_shl (by omega)) ?_
    refine lv_ior hx hb dX1_with_21 ?_
    refine cd_v (y := nI (t ||| (2 ^ x))) (cd_or _ _) ?_
    refine lM_follow hx hb hK hP (hlt) dX1_with_22 ?_
    refine cd_v (y := nI (cd_wi F t x v)) (by unfold cd_wi; rw [if_neg c6]) ?_
    exact cd_retI hx hb hr hlocks dX1_with_23
  · refine lv_iload_n hx hb dX1_with_9 rfl (lv_at hl 3 rfl) ?_
    refine lv_goto (tgt := 23) hx hb dX1_with_10 (by decide) ?_
    refine cd_v (y := nI (cd_wi F t x v)) (by unfold cd_wi; rw [if_pos c6]) ?_
    exact cd_retI hx hb hr hlocks dX1_with_23
theorem kM_with {R0 : Room} {s : State} {args : Array Value} (hts : ∀ w ∈ lw_all, w.before args s = true) (h : (cd_rm 1).frames + 1 ≤ R0.frames ∧ 8 + (4 + 11) + (cd_rm 1).locals ≤ R0.locals) : CallW R0 s args RX1 RX1 49 yX1_with cX1_with 4 (some .int) (ws_ yX1_with cX1_with 4 (some .int)) (cd_rm 1) 0 0 3 := cwV 3 hts (lw_V q255 q257 qs20 q26 q258) rfl rfl rfl (by decide +kernel) h
set_option maxHeartbeats 4000000 in
set_option maxRecDepth 100000 in
/-- more(set, now, i) -/
theorem mM_more (l : Launch) (D : va_G) (a : Nat → Nat) (d : Nat → ClassId) (n : Nat) (K : Nat → Nat) (L : Nat → Nat) (R : Nat → Nat) (kn : Prop) (F : Nat → Nat) (T : Nat → Prop) (t v i : Nat) (hwf : cd_wf n K L R) (ht : t < 2 ^ n) (hi : i < n) : cd_RO l yX1_more (ws_ yX1_more cX1_more 12 (some .int)) (cd_rm 2) D (cd_tM d) (cd_wM a d n K L R kn F T) [.ref (a 0), .int (nI t), .int (nI v), .int (nI i)] (nI (cd_more n K L R F t v i)) := by
  refine cd_enterRO (own := RX1) (by decide) rfl (Nat.le_of_ble_eq_true rfl) ?_
  intro p e s m below meth c ls hx hb hr hlocks hml hown hts hK hP hl
  have hl : lv_has ls 12 [(0, .ref (a 0)), (1, .int (nI t)), (2, .int (nI v)), (3, .int (nI i))] := hl
  have hn := hwf.1
  have hp11 := cd_p11 hn
  have hp1 := cd_p1 n
  obtain ⟨w1, w2, w3, w4⟩ := hwf.2 i hi
  refine lv_aload_n hx hb dX1_more_0 rfl (lv_at hl 0 rfl) ?_
  refine gM_sorts hx hb hts hown hK hP dX1_more_1 ?_
  refine lv_iload_n hx hb dX1_more_4 rfl (lv_at hl 3 rfl) ?_
  refine lM_sorts hx hb hK hP (by omega) dX1_more_5 ?_
  refine lv_istore (lv' := [(4, .int (nI (K i))), (0, .ref (a 0)), (1, .int (nI t)), (2, .int (nI v)), (3, .int (nI i))]) hx hb dX1_more_6 hl (by decide) rfl (fun ls hl => ?_)
  refine lv_aload_n hx hb dX1_more_8 rfl (lv_at hl 1 rfl) ?_
  refine gM_lefts hx hb hts hown hK hP dX1_more_9 ?_
  refine lv_iload_n hx hb dX1_more_12 rfl (lv_at hl 4 rfl) ?_
  refine lM_lefts hx hb hK hP (by omega) dX1_more_13 ?_
  refine lv_istore (lv' := [(5, .int (nI (L i))), (4, .int (nI (K i))), (0, .ref (a 0)), (1, .int (nI t)), (2, .int (nI v)), (3, .int (nI i))]) hx hb dX1_more_14 hl (by decide) rfl (fun ls hl => ?_)
  refine lv_aload_n hx hb dX1_more_16 rfl (lv_at hl 2 rfl) ?_
  refine gM_rights hx hb hts hown hK hP dX1_more_17 ?_
  refine lv_iload_n hx hb dX1_more_20 rfl (lv_at hl 5 rfl) ?_
  refine lM_rights hx hb hK hP (by omega) dX1_more_21 ?_
  refine lv_istore (lv' := [(6, .int (nI (R i))), (5, .int (nI (L i))), (4, .int (nI (K i))), (0, .ref (a 0)), (1, .int (nI t)), (2, .int (nI v)), (3, .int (nI i))]) hx hb dX1_more_22 hl (by decide) rfl (fun ls hl => ?_)
  refine lv_iload hx hb dX1_more_24 (lv_at hl 2 rfl) ?_
  refine lv_iconst (v := nI 4) hx hb dX1_more_26 (by decide) ?_
  refine cd_icmp_ne (tgt := 52) (by omega) (by omega) hx hb dX1_more_27 (by decide) (fun c27 => ?_) (fun c27 => ?_)
  · refine lv_iload hx hb dX1_more_52 (lv_at hl 2 rfl) ?_
    refine lv_iconst (v := nI 3) hx hb dX1_more_54 (by decide) ?_
    refine cd_icmp_ne (tgt := 60) (by omega) (by omega) hx hb dX1_more_55 (by decide) (fun c55 => ?_) (fun c55 => ?_)
    · refine lv_aload_n hx hb dX1_more_60 rfl (lv_at hl 3 rfl) ?_
      refine lv_iload_n hx hb dX1_more_61 rfl (lv_at hl 5 rfl) ?_
      refine lv_iload_n hx hb dX1_more_62 rfl (lv_at hl 6 rfl) ?_
      refine cd_callRO ⟨hx, hb, hml, hown, hts⟩ (mM_hasN l D a d n K L R kn F T v i (by omega)) (kM_has hts ⟨Nat.le_of_ble_eq_true rfl, Nat.le_of_ble_eq_true rfl⟩) rfl rfl rfl hP hK rfl hl.1 rfl (Nat.le_of_ble_eq_true rfl) dX1_more_63 ⟨Nat.zero_le _, Nat.zero_le _⟩ ?_
      refine lv_istore (lv' := [(7, .int (cd_b (v.testBit i = true))), (6, .int (nI (R i))), (5, .int (nI (L i))), (4, .int (nI (K i))), (0, .ref (a 0)), (1, .int (nI t)), (2, .int (nI v)), (3, .int (nI i))]) hx hb dX1_more_66 hl (by decide) rfl (fun ls hl => ?_)
      refine lv_iconst (v := nI 1) hx hb dX1_more_68 (by decide) ?_
      refine lv_iload hx hb dX1_more_69 (lv_at hl 2 rfl) ?_
      refine lv_ishl hx hb dX1_more_71 ?_
      refine cd_v (y := nI (2 ^ (L i))) (cd_shl (by omega)) ?_
      refine lv_iconst (v := nI 1) hx hb dX1_more_72 (by decide) ?_
      refine lv_iload hx hb dX1_more_73 (lv_at hl 1 rfl) ?_
      refine lv_ishl hx hb dX1_more_75 ?_
      refine cd_v (y := nI (2 ^ (R i))) (cd_shl (by omega)) ?_
      refine lv_ior hx hb dX1_more_76 ?_
      refine cd_v (y := nI ((2 ^ (L i)) ||| (2 ^ (R i)))) (cd_or _ _) ?_
      refine lv_istore (lv' := [(8, .int (nI ((2 ^ (L i)) ||| (2 ^ (R i))))), (7, .int (cd_b (v.testBit i = true))), (6, .int (nI (R i))), (5, .int (nI (L i))), (4, .int (nI (K i))), (0, .ref (a 0)), (1, .int (nI t)), (2, .int (nI v)), (3, .int (nI i))]) hx hb dX1_more_77 hl (by decide) rfl (fun ls hl => ?_)
      refine lv_iload hx hb dX1_more_79 (lv_at hl 4 rfl) ?_
      refine cd_if_ne (tgt := 111) (by omega) hx hb dX1_more_81 (by decide) (fun c81 => ?_) (fun c81 => ?_)
      · obtain ⟨w5, w6⟩ := w4 (by omega)
        refine lv_aload_n hx hb dX1_more_111 rfl (lv_at hl 5 rfl) ?_
        refine lv_iload_n hx hb dX1_more_112 rfl (lv_at hl 6 rfl) ?_
        refine lv_iload hx hb dX1_more_113 (lv_at hl 3 rfl) ?_
        refine lv_iload_n hx hb dX1_more_115 rfl (lv_at hl 7 rfl) ?_
        refine cd_callRO ⟨hx, hb, hml, hown, hts⟩ (mM_with l D a d n K L R kn F T t (L i) v (by omega) (Nat.lt_of_lt_of_le (cd_lt_add ht (by omega)) hp11)) (kM_with hts ⟨Nat.le_of_ble_eq_true rfl, Nat.le_of_ble_eq_true rfl⟩) rfl rfl rfl hP hK rfl hl.1 rfl (Nat.le_of_ble_eq_true rfl) dX1_more_116 ⟨Nat.zero_le _, Nat.zero_le _⟩ ?_
        refine lv_istore (lv' := [(9, .int (nI (cd_wi F t (L i) v))), (8, .int (nI ((2 ^ (L i)) ||| (2 ^ (R i))))), (7, .int (cd_b (v.testBit i = true))), (6, .int (nI (R i))), (5, .int (nI (L i))), (4, .int (nI (K i))), (0, .ref (a 0)), (1, .int (nI t)), (2, .int (nI v)), (3, .int (nI i))]) hx hb dX1_more_119 hl (by decide) rfl (fun ls hl => ?_)
        refine lv_iload hx hb dX1_more_121 (lv_at hl 5 rfl) ?_
        refine lv_iconst (v := nI 2) hx hb dX1_more_123 (by decide) ?_
        refine cd_icmp_ne (tgt := 175) (by omega) (by omega) hx hb dX1_more_124 (by decide) (fun c124 => ?_) (fun c124 => ?_)
        · refine lv_aload_n hx hb dX1_more_175 rfl (lv_at hl 6 rfl) ?_
          refine lv_iload_n hx hb dX1_more_176 rfl (lv_at hl 7 rfl) ?_
          refine lv_iload hx hb dX1_more_177 (lv_at hl 3 rfl) ?_
          refine lv_iload_n hx hb dX1_more_179 rfl (lv_at hl 8 rfl) ?_
          refine cd_callRO ⟨hx, hb, hml, hown, hts⟩ (mM_with l D a d n K L R kn F T t (R i) v (by omega) (Nat.lt_of_lt_of_le (cd_lt_add ht (by omega)) hp11)) (kM_with hts ⟨Nat.le_of_ble_eq_true rfl, Nat.le_of_ble_eq_true rfl⟩) rfl rfl rfl hP hK rfl hl.1 rfl (Nat.le_of_ble_eq_true rfl) dX1_more_180 ⟨Nat.zero_le _, Nat.zero_le _⟩ ?_
          refine lv_istore (lv' := [(10, .int (nI (cd_wi F t (R i) v))), (9, .int (nI (cd_wi F t (L i) v))), (8, .int (nI ((2 ^ (L i)) ||| (2 ^ (R i))))), (7, .int (cd_b (v.testBit i = true))), (6, .int (nI (R i))), (5, .int (nI (L i))), (4, .int (nI (K i))), (0, .ref (a 0)), (1, .int (nI t)), (2, .int (nI v)), (3, .int (nI i))]) hx hb dX1_more_183 hl (by decide) rfl (fun ls hl => ?_)
          refine lv_iload_n hx hb dX1_more_185 rfl (lv_at hl 9 rfl) ?_
          refine lv_iload hx hb dX1_more_186 (lv_at hl 2 rfl) ?_
          refine lv_iand hx hb dX1_more_188 ?_
          refine cd_v (y := nI (v &&& ((2 ^ (L i)) ||| (2 ^ (R i))))) (cd_and _ _) ?_
          refine cd_if_eq (tgt := 198) (Nat.lt_of_le_of_lt Nat.and_le_right (cd_bo31 w2 w3)) hx hb dX1_more_189 (by decide) (fun c189 => ?_) (fun c189 => ?_)
          · refine lv_iconst (v := nI 0) hx hb dX1_more_198 (by decide) ?_
            refine lv_istore (lv' := [(11, .int (nI 0)), (10, .int (nI (cd_wi F t (R i) v))), (9, .int (nI (cd_wi F t (L i) v))), (8, .int (nI ((2 ^ (L i)) ||| (2 ^ (R i))))), (7, .int (cd_b (v.testBit i = true))), (6, .int (nI (R i))), (5, .int (nI (L i))), (4, .int (nI (K i))), (0, .ref (a 0)), (1, .int (nI t)), (2, .int (nI v)), (3, .int (nI i))]) hx hb dX1_more_199 hl (by decide) rfl (fun ls hl => ?_)
            refine lv_iload hx hb dX1_more_201 (lv_at hl 4 rfl) ?_
            refine cd_ifb_eq (tgt := 217) hx hb dX1_more_203 (by decide) (fun c203 => ?_) (fun c203 => ?_)
            · refine lv_iload hx hb dX1_more_217 (lv_at hl 0 rfl) ?_
              refine cd_v (y := nI (cd_more n K L R F t v i)) (congrArg nI (by simp [cd_more, c27, c55, c81, c124, c189, c203])) ?_
              exact cd_retI hx hb hr hlocks dX1_more_219
            · refine lv_iload hx hb dX1_more_206 (lv_at hl 2 rfl) ?_
              refine lv_iload hx hb dX1_more_208 (lv_at hl 1 rfl) ?_
              refine lv_iand hx hb dX1_more_210 ?_
              refine cd_v (y := nI ((cd_wi F t (L i) v) &&& (cd_wi F t (R i) v))) (cd_and _ _) ?_
              refine lv_iload hx hb dX1_more_211 (lv_at hl 0 rfl) ?_
              refine lv_ior hx hb dX1_more_213 ?_
              refine cd_v (y := nI (((cd_wi F t (L i) v) &&& (cd_wi F t (R i) v)) ||| 0)) (cd_or _ _) ?_
              refine lv_goto (tgt := 219) hx hb dX1_more_214 (by decide) ?_
              refine cd_v (y := nI (cd_more n K L R F t v i)) (congrArg nI (by simp [cd_more, c27, c55, c81, c124, c189, c203])) ?_
              exact cd_retI hx hb hr hlocks dX1_more_219
          · refine lv_iconst (v := nI 1) hx hb dX1_more_192 (by decide) ?_
            refine lv_iload_n hx hb dX1_more_193 rfl (lv_at hl 10 rfl) ?_
            refine lv_ishl hx hb dX1_more_194 ?_
            refine cd_v (y := nI (2 ^ i)) (cd_shl (by omega)) ?_
            refine lv_goto (tgt := 199) hx hb dX1_more_195 (by decide) ?_
            refine lv_istore (lv' := [(11, .int (nI (2 ^ i))), (10, .int (nI (cd_wi F t (R i) v))), (9, .int (nI (cd_wi F t (L i) v))), (8, .int (nI ((2 ^ (L i)) ||| (2 ^ (R i))))), (7, .int (cd_b (v.testBit i = true))), (6, .int (nI (R i))), (5, .int (nI (L i))), (4, .int (nI (K i))), (0, .ref (a 0)), (1, .int (nI t)), (2, .int (nI v)), (3, .int (nI i))]) hx hb dX1_more_199 hl (by decide) rfl (fun ls hl => ?_)
            refine lv_iload hx hb dX1_more_201 (lv_at hl 4 rfl) ?_
            refine cd_ifb_eq (tgt := 217) hx hb dX1_more_203 (by decide) (fun c203 => ?_) (fun c203 => ?_)
            · refine lv_iload hx hb dX1_more_217 (lv_at hl 0 rfl) ?_
              refine cd_v (y := nI (cd_more n K L R F t v i)) (congrArg nI (by simp [cd_more, c27, c55, c81, c124, c189, c203])) ?_
              exact cd_retI hx hb hr hlocks dX1_more_219
            · refine lv_iload hx hb dX1_more_206 (lv_at hl 2 rfl) ?_
              refine lv_iload hx hb dX1_more_208 (lv_at hl 1 rfl) ?_
              refine lv_iand hx hb dX1_more_210 ?_
              refine cd_v (y := nI ((cd_wi F t (L i) v) &&& (cd_wi F t (R i) v))) (cd_and _ _) ?_
              refine lv_iload hx hb dX1_more_211 (lv_at hl 0 rfl) ?_
              refine lv_ior hx hb dX1_more_213 ?_
              refine cd_v (y := nI (((cd_wi F t (L i) v) &&& (cd_wi F t (R i) v)) ||| (2 ^ i))) (cd_or _ _) ?_
              refine lv_goto (tgt := 219) hx hb dX1_more_214 (by decide) ?_
              refine cd_v (y := nI (cd_more n K L R F t v i)) (congrArg nI (by simp [cd_more, c27, c55, c81, c124, c189, c203])) ?_
              exact cd_retI hx hb hr hlocks dX1_more_219
        · refine lv_aload_n hx hb dX1_more_127 rfl (lv_at hl 6 rfl) ?_
          refine lv_iload hx hb dX1_more_128 (lv_at hl 0 rfl) ?_
          refine lv_iload hx hb dX1_more_130 (lv_at hl 3 rfl) ?_
          refine cd_callRO ⟨hx, hb, hml, hown, hts⟩ (mM_hasN l D a d n K L R kn F T (cd_wi F t (L i) v) (R i) (by omega)) (kM_has hts ⟨Nat.le_of_ble_eq_true rfl, Nat.le_of_ble_eq_true rfl⟩) rfl rfl rfl hP hK rfl hl.1 rfl (Nat.le_of_ble_eq_true rfl) dX1_more_132 ⟨Nat.zero_le _, Nat.zero_le _⟩ ?_
          refine cd_ifb_eq (tgt := 144) hx hb dX1_more_135 (by decide) (fun c135 => ?_) (fun c135 => ?_)
          · refine lv_iconst (v := nI 0) hx hb dX1_more_144 (by decide) ?_
            refine lv_istore (lv' := [(10, .int (nI 0)), (9, .int (nI (cd_wi F t (L i) v))), (8, .int (nI ((2 ^ (L i)) ||| (2 ^ (R i))))), (7, .int (cd_b (v.testBit i = true))), (6, .int (nI (R i))), (5, .int (nI (L i))), (4, .int (nI (K i))), (0, .ref (a 0)), (1, .int (nI t)), (2, .int (nI v)), (3, .int (nI i))]) hx hb dX1_more_145 hl (by decide) rfl (fun ls hl => ?_)
            refine lv_iload hx hb dX1_more_147 (lv_at hl 3 rfl) ?_
            refine cd_ifb_eq (tgt := 172) hx hb dX1_more_149 (by decide) (fun c149 => ?_) (fun c149 => ?_)
            · refine lv_iload hx hb dX1_more_172 (lv_at hl 0 rfl) ?_
              refine cd_v (y := nI (cd_more n K L R F t v i)) (congrArg nI (by simp [cd_more, c27, c55, c81, c124, c135, c149])) ?_
              exact cd_retI hx hb hr hlocks dX1_more_174
            · refine lv_aload_n hx hb dX1_more_152 rfl (lv_at hl 7 rfl) ?_
              refine lv_iload_n hx hb dX1_more_153 rfl (lv_at hl 9 rfl) ?_
              refine lv_iload hx hb dX1_more_154 (lv_at hl 5 rfl) ?_
              refine cd_callRO ⟨hx, hb, hml, hown, hts⟩ (mM_hasN l D a d n K L R kn F T v (L i) (by omega)) (kM_has hts ⟨Nat.le_of_ble_eq_true rfl, Nat.le_of_ble_eq_true rfl⟩) rfl rfl rfl hP hK rfl hl.1 rfl (Nat.le_of_ble_eq_true rfl) dX1_more_156 ⟨Nat.zero_le _, Nat.zero_le _⟩ ?_
              refine cd_ifb_eq (tgt := 172) hx hb dX1_more_159 (by decide) (fun c159 => ?_) (fun c159 => ?_)
              · refine lv_iload hx hb dX1_more_172 (lv_at hl 0 rfl) ?_
                refine cd_v (y := nI (cd_more n K L R F t v i)) (congrArg nI (by simp [cd_more, c27, c55, c81, c124, c135, c149, c159])) ?_
                exact cd_retI hx hb hr hlocks dX1_more_174
              · refine lv_iload hx hb dX1_more_162 (lv_at hl 0 rfl) ?_
                refine lv_iconst (v := nI 1) hx hb dX1_more_164 (by decide) ?_
                refine lv_iload hx hb dX1_more_165 (lv_at hl 4 rfl) ?_
                refine lv_ishl hx hb dX1_more_167 ?_
                refine cd_v (y := nI (2 ^ (R i))) (cd_shl (by omega)) ?_
                refine lv_ior hx hb dX1_more_168 ?_
                refine cd_v (y := nI (0 ||| (2 ^ (R i)))) (cd_or _ _) ?_
                refine lv_goto (tgt := 174) hx hb dX1_more_169 (by decide) ?_
                refine cd_v (y := nI (cd_more n K L R F t v i)) (congrArg nI (by simp [cd_more, c27, c55, c81, c124, c135, c149, c159])) ?_
                exact cd_retI hx hb hr hlocks dX1_more_174
          · refine lv_iconst (v := nI 1) hx hb dX1_more_138 (by decide) ?_
            refine lv_iload_n hx hb dX1_more_139 rfl (lv_at hl 9 rfl) ?_
            refine lv_ishl hx hb dX1_more_140 ?_
            refine cd_v (y := nI (2 ^ i)) (cd_shl (by omega)) ?_
            refine lv_goto (tgt := 145) hx hb dX1_more_141 (by decide) ?_
            refine lv_istore (lv' := [(10, .int (nI (2 ^ i))), (9, .int (nI (cd_wi F t (L i) v))), (8, .int (nI ((2 ^ (L i)) ||| (2 ^ (R i))))), (7, .int (cd_b (v.testBit i = true))), (6, .int (nI (R i))), (5, .int (nI (L i))), (4, .int (nI (K i))), (0, .ref (a 0)), (1, .int (nI t)), (2, .int (nI v)), (3, .int (nI i))]) hx hb dX1_more_145 hl (by decide) rfl (fun ls hl => ?_)
            refine lv_iload hx hb dX1_more_147 (lv_at hl 3 rfl) ?_
            refine cd_ifb_eq (tgt := 172) hx hb dX1_more_149 (by decide) (fun c149 => ?_) (fun c149 => ?_)
            · refine lv_iload hx hb dX1_more_172 (lv_at hl 0 rfl) ?_
              refine cd_v (y := nI (cd_more n K L R F t v i)) (congrArg nI (by simp [cd_more, c27, c55, c81, c124, c135, c149])) ?_
              exact cd_retI hx hb hr hlocks dX1_more_174
            · refine lv_aload_n hx hb dX1_more_152 rfl (lv_at hl 7 rfl) ?_
              refine lv_iload_n hx hb dX1_more_153 rfl (lv_at hl 9 rfl) ?_
              refine lv_iload hx hb dX1_more_154 (lv_at hl 5 rfl) ?_
              refine cd_callRO ⟨hx, hb, hml, hown, hts⟩ (mM_hasN l D a d n K L R kn F T v (L i) (by omega)) (kM_has hts ⟨Nat.le_of_ble_eq_true rfl, Nat.le_of_ble_eq_true rfl⟩) rfl rfl rfl hP hK rfl hl.1 rfl (Nat.le_of_ble_eq_true rfl) dX1_more_156 ⟨Nat.zero_le _, Nat.zero_le _⟩ ?_
              refine cd_ifb_eq (tgt := 172) hx hb dX1_more_159 (by decide) (fun c159 => ?_) (fun c159 => ?_)
              · refine lv_iload hx hb dX1_more_172 (lv_at hl 0 rfl) ?_
                refine cd_v (y := nI (cd_more n K L R F t v i)) (congrArg nI (by simp [cd_more, c27, c55, c81, c124, c135, c149, c159])) ?_
                exact cd_retI hx hb hr hlocks dX1_more_174
              · refine lv_iload hx hb dX1_more_162 (lv_at hl 0 rfl) ?_
                refine lv_iconst (v := nI 1) hx hb dX1_more_164 (by decide) ?_
                refine lv_iload hx hb dX1_more_165 (lv_at hl 4 rfl) ?_
                refine lv_ishl hx hb dX1_more_167 ?_
                refine cd_v (y := nI (2 ^ (R i))) (cd_shl (by omega)) ?_
                refine lv_ior hx hb dX1_more_168 ?_
                refine cd_v (y := nI ((2 ^ i) ||| (2 ^ (R i)))) (cd_or _ _) ?_
                refine lv_goto (tgt := 174) hx hb dX1_more_169 (by decide) ?_
                refine cd_v (y := nI (cd_more n K L R F t v i)) (congrArg nI (by simp [cd_more, c27, c55, c81, c124, c135, c149, c159])) ?_
                exact cd_retI hx hb hr hlocks dX1_more_174
      · refine lv_iload hx hb dX1_more_84 (lv_at hl 1 rfl) ?_
        refine cd_ifb_eq (tgt := 94) hx hb dX1_more_86 (by decide) (fun c86 => ?_) (fun c86 => ?_)
        · refine lv_iload_n hx hb dX1_more_94 rfl (lv_at hl 7 rfl) ?_
          refine lv_iload hx hb dX1_more_95 (lv_at hl 0 rfl) ?_
          refine lv_iand hx hb dX1_more_97 ?_
          refine cd_v (y := nI (v &&& ((2 ^ (L i)) ||| (2 ^ (R i))))) (cd_and _ _) ?_
          refine lv_iload hx hb dX1_more_98 (lv_at hl 0 rfl) ?_
          refine cd_icmp_ne (tgt := 109) (Nat.lt_of_le_of_lt Nat.and_le_right (cd_bo31 w2 w3)) (cd_bo31 w2 w3) hx hb dX1_more_100 (by decide) (fun c100 => ?_) (fun c100 => ?_)
          · refine lv_iconst (v := nI 0) hx hb dX1_more_109 (by decide) ?_
            refine cd_v (y := nI (cd_more n K L R F t v i)) (congrArg nI (by simp [cd_more, c27, c55, c81, c86, c100])) ?_
            exact cd_retI hx hb hr hlocks dX1_more_110
          · refine lv_iconst (v := nI 1) hx hb dX1_more_103 (by decide) ?_
            refine lv_iload_n hx hb dX1_more_104 rfl (lv_at hl 8 rfl) ?_
            refine lv_ishl hx hb dX1_more_105 ?_
            refine cd_v (y := nI (2 ^ i)) (cd_shl (by omega)) ?_
            refine lv_goto (tgt := 110) hx hb dX1_more_106 (by decide) ?_
            refine cd_v (y := nI (cd_more n K L R F t v i)) (congrArg nI (by simp [cd_more, c27, c55, c81, c86, c100])) ?_
            exact cd_retI hx hb hr hlocks dX1_more_110
        · refine lv_iload hx hb dX1_more_89 (lv_at hl 0 rfl) ?_
          refine lv_goto (tgt := 110) hx hb dX1_more_91 (by decide) ?_
          refine cd_v (y := nI (cd_more n K L R F t v i)) (congrArg nI (by simp [cd_more, c27, c55, c81, c86])) ?_
          exact cd_retI hx hb hr hlocks dX1_more_110
    · refine lv_iconst (v := nI 0) hx hb dX1_more_58 (by decide) ?_
      refine cd_v (y := nI (cd_more n K L R F t v i)) (congrArg nI (by simp [cd_more, c27, c55])) ?_
      exact cd_retI hx hb hr hlocks dX1_more_59
  · refine lv_aload_n hx hb dX1_more_30 rfl (lv_at hl 3 rfl) ?_
    refine lv_iload_n hx hb dX1_more_31 rfl (lv_at hl 5 rfl) ?_
    refine lv_iload_n hx hb dX1_more_32 rfl (lv_at hl 6 rfl) ?_
    refine cd_callRO ⟨hx, hb, hml, hown, hts⟩ (mM_hasN l D a d n K L R kn F T v i (by omega)) (kM_has hts ⟨Nat.le_of_ble_eq_true rfl, Nat.le_of_ble_eq_true rfl⟩) rfl rfl rfl hP hK rfl hl.1 rfl (Nat.le_of_ble_eq_true rfl) dX1_more_33 ⟨Nat.zero_le _, Nat.zero_le _⟩ ?_
    refine cd_ifb_eq (tgt := 50) hx hb dX1_more_36 (by decide) (fun c36 => ?_) (fun c36 => ?_)
    · refine lv_iconst (v := nI 0) hx hb dX1_more_50 (by decide) ?_
      refine cd_v (y := nI (cd_more n K L R F t v i)) (congrArg nI (by simp [cd_more, c27, c36])) ?_
      exact cd_retI hx hb hr hlocks dX1_more_51
    · refine lv_iconst (v := nI 1) hx hb dX1_more_39 (by decide) ?_
      refine lv_aload_n hx hb dX1_more_40 rfl (lv_at hl 3 rfl) ?_
      refine gM_size hx hb hts hown hK hP dX1_more_41 ?_
      refine lv_ishl hx hb dX1_more_44 ?_
      refine cd_v (y := nI (2 ^ n)) (cd_shl (by omega)) ?_
      refine lv_iconst (v := nI 1) hx hb dX1_more_45 (by decide) ?_
      refine lv_isub hx hb dX1_more_46 ?_
      refine cd_v (y := nI (2 ^ n - 1)) (pk_sub (by omega)) ?_
      refine lv_goto (tgt := 51) hx hb dX1_more_47 (by decide) ?_
      refine cd_v (y := nI (cd_more n K L R F t v i)) (congrArg nI (by simp [cd_more, c27, c36])) ?_
      exact cd_retI hx hb hr hlocks dX1_more_51
theorem kM_more {R0 : Room} {s : State} {args : Array Value} (hts : ∀ w ∈ lw_all, w.before args s = true) (h : (cd_rm 2).frames + 1 ≤ R0.frames ∧ 8 + (12 + 11) + (cd_rm 2).locals ≤ R0.locals) : CallW R0 s args RX1 RX1 52 yX1_more cX1_more 12 (some .int) (ws_ yX1_more cX1_more 12 (some .int)) (cd_rm 2) 0 0 3 := cwV 3 hts (lw_V q247 q249 qs18 q26 q250) rfl rfl rfl (by decide +kernel) h
end
section
set_option maxHeartbeats 4000000 in
set_option maxRecDepth 100000 in
/-- work(): what follows from each set -/
theorem mM_work (l : Launch) (D : va_G) (a : Nat → Nat) (d : Nat → ClassId) (n : Nat) (K : Nat → Nat) (L : Nat → Nat) (R : Nat → Nat) (kn : Prop) (F : Nat → Nat) (T : Nat → Prop) (hwf : cd_wf n K L R) (hkf : kn → ∀ Z, Z < 2 ^ n → F Z = cd_cl n K L R Z) : cd_RV (S := Prop × (Nat → Nat)) l yX1_work (ws_ yX1_work cX1_work 5 none) (cd_rm 3) D (cd_tM d) (cd_wM a d n K L R kn F T) [.ref (a 0)] (fun u => u.1 ∧ ∀ Z, Z < 2 ^ n → u.2 Z = cd_cl n K L R Z) (fun u => cd_wM a d n K L R u.1 u.2 T) := by
  refine cd_enterRV (own := RX1) (by decide) rfl (Nat.le_of_ble_eq_true rfl) ?_
  intro A p e s m below meth c ls hx hb hr hlocks hml hown hts hK hP hl hD hA hS
  have hl : lv_has ls 5 [(0, .ref (a 0))] := hl
  have hn := hwf.1
  have hp11 := cd_p11 hn
  have hp1 := cd_p1 n
  refine lv_aload_n hx hb dX1_work_0 rfl (lv_at hl 0 rfl) ?_
  refine gM_known hx hb hts hown hK hP dX1_work_1 ?_
  refine cd_ifb_eq (tgt := 8) hx hb dX1_work_4 (by decide) (fun c4 => ?_) (fun c4 => ?_)
  · refine lv_aload_n hx hb dX1_work_8 rfl (lv_at hl 0 rfl) ?_
    refine lv_iconst (v := nI 1) hx hb dX1_work_9 (by decide) ?_
    refine cd_v (y := cd_b True) (cd_b1 trivial).symm ?_
    refine sM_known hx hb hts hown hK hP hD hS dX1_work_10 (fun H locs hP hD hS => ?_)
    refine lv_iconst (v := nI 1) hx hb dX1_work_13 (by decide) ?_
    refine lv_aload_n hx hb dX1_work_14 rfl (lv_at hl 0 rfl) ?_
    refine gM_size hx hb hts hown hK hP dX1_work_15 ?_
    refine lv_ishl hx hb dX1_work_18 ?_
    refine cd_v (y := nI (2 ^ n)) (cd_shl (by omega)) ?_
    refine lv_iconst (v := nI 1) hx hb dX1_work_19 (by decide) ?_
    refine lv_isub hx hb dX1_work_20 ?_
    refine cd_v (y := nI (2 ^ n - 1)) (pk_sub (by omega)) ?_
    refine cd_v (y := cd_pr (2 ^ n)) (cd_pr_p n) ?_
    refine lv_istore_n (lv' := [(1, .int (cd_pr (2 ^ n))), (0, .ref (a 0))]) hx hb dX1_work_21 rfl hl (by decide) rfl (fun ls hl => ?_)
    refine cd_loopW (fun N_ H_ locs_ ls_ => ∃ (t : Nat) (F1 : Nat → Nat), N_ = t ∧ t ≤ 2 ^ n ∧ (∀ Z, t ≤ Z → Z < 2 ^ n → F1 Z = cd_cl n K L R Z) ∧ va_P D cd_cls (cd_wM a d n K L R True F1 T) H_ ∧ va_D A (cd_wM a d n K L R True F1 T) ∧ va_S A s.heap H_ locs_ ∧ lv_has ls_ 5 [(0, .ref (a 0)), (1, .int (cd_pr t))]) ?_ _ ⟨2 ^ n, F, rfl, Nat.le_refl _, (fun Z h1 h2 => absurd h1 (Nat.not_le.mpr h2)), hP, hD, hS, lv_sub hl [1, 0] rfl⟩
    intro N22 H locs ls hI22 ih22
    obtain ⟨t, F1, hN22, ht, hF, hP, hD, hS, hl⟩ := hI22
    rcases Nat.eq_zero_or_pos t with ht0 | ht0
    · subst ht0
      refine lv_iload_n hx hb dX1_work_22 rfl (lv_at hl 1 rfl) ?_
      refine lv_if_lt (tgt := 82) hx hb dX1_work_23 (by decide) (fun _ => ?_) (fun z => absurd cd_pr_0 z)
      exact cd_retV (True, F1) hx hb hr hlocks (⟨trivial, fun Z h => hF Z (Nat.zero_le _) h⟩) hP hD hS dX1_work_82
    · obtain ⟨t1, rfl⟩ : ∃ t1, t = t1 + 1 := ⟨t - 1, by omega⟩
      rw [cd_pr_s] at hl
      have ht1 : t1 < 2 ^ n := by omega
      refine lv_iload_n hx hb dX1_work_22 rfl (lv_at hl 1 rfl) ?_
      refine cd_if_lt (tgt := 82) (by omega) hx hb dX1_work_23 (by decide) (fun z => z.elim) (fun c23 => ?_)
      refine lv_iload_n hx hb dX1_work_26 rfl (lv_at hl 1 rfl) ?_
      refine lv_istore_n (lv' := [(2, .int (nI t1)), (0, .ref (a 0)), (1, .int (nI t1))]) hx hb dX1_work_27 rfl hl (by decide) rfl (fun ls hl => ?_)
      refine lv_iconst (v := (-1)) hx hb dX1_work_28 (by decide) ?_
      refine lv_istore_n (lv' := [(3, .int ((-1))), (2, .int (nI t1)), (0, .ref (a 0)), (1, .int (nI t1))]) hx hb dX1_work_29 rfl hl (by decide) rfl (fun ls hl => ?_)
      refine cd_loopR (fun N_ ls_ => ∃ (v : Nat) (b : Int32) (fl : Nat), N_ = 2 * (2 ^ n - v) + fl ∧ cd_sub t1 v ∧ cd_sub v (cd_cl n K L R t1) ∧ (fl = 1 ∨ b = nI v) ∧ (b = nI v → ∀ i, i < n → cd_sub (cd_more n K L R F1 t1 v i) v) ∧ lv_has ls_ 5 [(0, .ref (a 0)), (1, .int (nI t1)), (2, .int (nI v)), (3, .int (b))]) ?_ _ ⟨t1, (-1), 1, rfl, cd_sub_rf _, (cd_cl_sup ht1), (Or.inl rfl), (fun h => absurd h (cd_m1n (by omega))), lv_sub hl [2, 3, 1, 0] rfl⟩
      intro N30 ls hI30 ih30
      obtain ⟨v, b, fl, hN30, hv1, hv2, hfl, hfx, hl⟩ := hI30
      refine lv_iload_n hx hb dX1_work_30 rfl (lv_at hl 2 rfl) ?_
      refine lv_iload_n hx hb dX1_work_31 rfl (lv_at hl 3 rfl) ?_
      refine lv_icmp_eq (tgt := 69) hx hb dX1_work_32 (by decide) (fun c32 => ?_) (fun c32 => ?_)
      · refine lv_aload_n hx hb dX1_work_69 rfl (lv_at hl 0 rfl) ?_
        refine gM_follow hx hb hts hown hK hP dX1_work_70 ?_
        refine lv_iload_n hx hb dX1_work_73 rfl (lv_at hl 1 rfl) ?_
        refine lv_iload_n hx hb dX1_work_74 rfl (lv_at hl 2 rfl) ?_
        refine tM_follow hx hb hK hP hD hS (by omega) dX1_work_75 (fun H locs hP hD hS => ?_)
        refine lv_iinc (v := cd_pr t1) (lv' := [(1, .int (cd_pr t1)), (0, .ref (a 0)), (2, .int (nI v)), (3, .int (b))]) hx hb dX1_work_76 hl (k := 1) rfl (rfl) (by decide) rfl (fun ls hl => ?_)
        refine lv_goto (tgt := 22) hx hb dX1_work_79 (by decide) ?_
        exact ih22 _ _ _ _ (by omega) ⟨t1, cd_up F1 t1 v, rfl, (by omega), (cd_wk_put hwf ht1 hF hv1 hv2 (hfx c32.symm)), hP, hD, hS, lv_sub hl [1, 0] rfl⟩
      · refine lv_iload_n hx hb dX1_work_35 rfl (lv_at hl 2 rfl) ?_
        refine lv_istore_n (lv' := [(3, .int (nI v)), (0, .ref (a 0)), (1, .int (nI t1)), (2, .int (nI v))]) hx hb dX1_work_36 rfl hl (by decide) rfl (fun ls hl => ?_)
        refine lv_iconst (v := nI 0) hx hb dX1_work_37 (by decide) ?_
        refine lv_istore (lv' := [(4, .int (nI 0)), (3, .int (nI v)), (0, .ref (a 0)), (1, .int (nI t1)), (2, .int (nI v))]) hx hb dX1_work_38 hl (by decide) rfl (fun ls hl => ?_)
        refine cd_loopR (fun N_ ls_ => ∃ (i : Nat) (v2 : Nat), N_ = n - i ∧ i ≤ n ∧ cd_sub v v2 ∧ cd_sub v2 (cd_cl n K L R t1) ∧ (v2 = v → ∀ j, j < i → cd_sub (cd_more n K L R F1 t1 v j) v) ∧ lv_has ls_ 5 [(0, .ref (a 0)), (1, .int (nI t1)), (2, .int (nI v2)), (3, .int (nI v)), (4, .int (nI i))]) ?_ _ ⟨0, v, rfl, (by omega), cd_sub_rf _, hv2, (fun _ => cd_all0), lv_sub hl [2, 3, 4, 1, 0] rfl⟩
        intro N40 ls hI40 ih40
        obtain ⟨i, v2, hN40, hi, hu1, hu2, hu3, hl⟩ := hI40
        refine lv_iload hx hb dX1_work_40 (lv_at hl 4 rfl) ?_
        refine lv_aload_n hx hb dX1_work_42 rfl (lv_at hl 0 rfl) ?_
        refine gM_size hx hb hts hown hK hP dX1_work_43 ?_
        refine cd_icmp_ge (tgt := 66) (by omega) (by omega) hx hb dX1_work_46 (by decide) (fun c46 => ?_) (fun c46 => ?_)
        · refine lv_goto (tgt := 30) hx hb dX1_work_66 (by decide) ?_
          exact ih30 _ _ (cd_wk_dec hu1 hu2 hfl c32 hN30) ⟨v2, nI v, (if v2 = v then 0 else 1), rfl, (cd_sub_tr hv1 hu1), hu2, cd_wk_fl, (cd_wk_fx hn c46 hv2 hu2 hu3), lv_sub hl [0, 1, 2, 3] rfl⟩
        · refine lv_iload_n hx hb dX1_work_49 rfl (lv_at hl 2 rfl) ?_
          refine lv_aload_n hx hb dX1_work_50 rfl (lv_at hl 0 rfl) ?_
          refine lv_iload_n hx hb dX1_work_51 rfl (lv_at hl 1 rfl) ?_
          refine lv_iload_n hx hb dX1_work_52 rfl (lv_at hl 2 rfl) ?_
          refine lv_iload hx hb dX1_work_53 (lv_at hl 4 rfl) ?_
          refine cd_callRO ⟨hx, hb, hml, hown, hts⟩ (mM_more l D a d n K L R True F1 T t1 v2 i hwf (by omega) c46) (kM_more hts ⟨Nat.le_of_ble_eq_true rfl, Nat.le_of_ble_eq_true rfl⟩) rfl rfl rfl hP hK rfl hl.1 rfl (Nat.le_of_ble_eq_true rfl) dX1_work_55 ⟨Nat.zero_le _, Nat.zero_le _⟩ ?_
          refine lv_ior hx hb dX1_work_58 ?_
          refine cd_v (y := nI (v2 ||| (cd_more n K L R F1 t1 v2 i))) (cd_or _ _) ?_
          refine lv_istore_n (lv' := [(2, .int (nI (v2 ||| (cd_more n K L R F1 t1 v2 i)))), (0, .ref (a 0)), (1, .int (nI t1)), (3, .int (nI v)), (4, .int (nI i))]) hx hb dX1_work_59 rfl hl (by decide) rfl (fun ls hl => ?_)
          refine lv_iinc (v := nI (i + 1)) (lv' := [(4, .int (nI (i + 1))), (2, .int (nI (v2 ||| (cd_more n K L R F1 t1 v2 i)))), (0, .ref (a 0)), (1, .int (nI t1)), (3, .int (nI v))]) hx hb dX1_work_60 hl (k := 4) rfl (cd_inc _) (by decide) rfl (fun ls hl => ?_)
          refine lv_goto (tgt := 40) hx hb dX1_work_63 (by decide) ?_
          exact ih40 _ _ (by omega) ⟨i + 1, v2 ||| (cd_more n K L R F1 t1 v2 i), rfl, (by omega), (cd_sub_tr hu1 (cd_sub_or _ _)), (cd_or_sub hu2 (cd_more_in hwf ht1 (fun Z a b => hF Z a b) hu2 c46)), (cd_wk_next hu1 hu3), lv_sub hl [2, 3, 1, 4, 0] rfl⟩
  · exact cd_retV (kn, F) hx hb hr hlocks (⟨c4, hkf c4⟩) hP hD hS dX1_work_7
theorem kM_work {R0 : Room} {s : State} {args : Array Value} (hts : ∀ w ∈ lw_all, w.before args s = true) (h : (cd_rm 3).frames + 1 ≤ R0.frames ∧ 8 + (5 + 11) + (cd_rm 3).locals ≤ R0.locals) : CallW R0 s args RX1 RX1 55 yX1_work cX1_work 5 none (ws_ yX1_work cX1_work 5 none) (cd_rm 3) 0 0 0 := cwV 0 hts (lw_V q243 q245 qs17 q26 q246) rfl rfl rfl (by decide +kernel) h
set_option maxHeartbeats 4000000 in
set_option maxRecDepth 100000 in
/-- taken(set) -/
theorem mM_taken (l : Launch) (D : va_G) (a : Nat → Nat) (d : Nat → ClassId) (n : Nat) (K : Nat → Nat) (L : Nat → Nat) (R : Nat → Nat) (kn : Prop) (F : Nat → Nat) (T : Nat → Prop) (x : Int32) (hwf : cd_wf n K L R) (hkf : kn → ∀ Z, Z < 2 ^ n → F Z = cd_cl n K L R Z) : cd_RW (S := Prop × (Nat → Nat)) l yX1_taken (ws_ yX1_taken cX1_taken 2 (some .int)) (cd_rm 4) D (cd_tM d) (cd_wM a d n K L R kn F T) [.ref (a 0), .int (x)] (fun r u => r = nI (cd_mo x n) ∧ u.1 ∧ ∀ Z, Z < 2 ^ n → u.2 Z = cd_cl n K L R Z) (fun u => cd_wM a d n K L R u.1 u.2 T) := by
  refine cd_enterRW (own := RX1) (by decide) rfl (Nat.le_of_ble_eq_true rfl) ?_
  intro A p e s m below meth c ls hx hb hr hlocks hml hown hts hK hP hl hD hA hS
  have hl : lv_has ls 2 [(0, .ref (a 0)), (1, .int (x))] := hl
  have hn := hwf.1
  have hp11 := cd_p11 hn
  have hp1 := cd_p1 n
  refine lv_aload_n hx hb dX1_taken_0 rfl (lv_at hl 0 rfl) ?_
  refine cd_callRV ⟨hx, hb, hml, hown, hts⟩ (mM_work l D a d n K L R kn F T hwf hkf) (kM_work hts ⟨Nat.le_of_ble_eq_true rfl, Nat.le_of_ble_eq_true rfl⟩) rfl rfl rfl hP hK hD hS hA rfl hl.1 rfl (Nat.le_of_ble_eq_true rfl) dX1_taken_1 ⟨Nat.zero_le _, Nat.zero_le _⟩ (fun u1 H locs hu1 hP hD hS => ?_)
  obtain ⟨kn1, F1⟩ := u1
  obtain ⟨hk1, hF1⟩ := hu1
  have hP : va_P D cd_cls (cd_wM a d n K L R kn1 F1 T) H := hP
  have hD : va_D A (cd_wM a d n K L R kn1 F1 T) := hD
  have hF1 : ∀ Z, Z < 2 ^ n → F1 Z = cd_cl n K L R Z := hF1
  refine lv_iload_n hx hb dX1_taken_4 rfl (lv_at hl 1 rfl) ?_
  refine lv_iconst (v := nI 1) hx hb dX1_taken_5 (by decide) ?_
  refine lv_aload_n hx hb dX1_taken_6 rfl (lv_at hl 0 rfl) ?_
  refine gM_size hx hb hts hown hK hP dX1_taken_7 ?_
  refine lv_ishl hx hb dX1_taken_10 ?_
  refine cd_v (y := nI (2 ^ n)) (cd_shl (by omega)) ?_
  refine lv_iconst (v := nI 1) hx hb dX1_taken_11 (by decide) ?_
  refine lv_isub hx hb dX1_taken_12 ?_
  refine cd_v (y := nI (2 ^ n - 1)) (pk_sub (by omega)) ?_
  refine lv_iand hx hb dX1_taken_13 ?_
  refine cd_v (y := nI (cd_mo x n)) (cd_mask _ hn) ?_
  exact cd_retW (kn1, F1) hx hb hr hlocks (⟨rfl, hk1, hF1⟩) hP hD hS dX1_taken_14
theorem kM_taken {R0 : Room} {s : State} {args : Array Value} (hts : ∀ w ∈ lw_all, w.before args s = true) (h : (cd_rm 4).frames + 1 ≤ R0.frames ∧ 8 + (2 + 11) + (cd_rm 4).locals ≤ R0.locals) : CallW R0 s args RX1 RX1 58 yX1_taken cX1_taken 2 (some .int) (ws_ yX1_taken cX1_taken 2 (some .int)) (cd_rm 4) 0 0 1 := cwV 1 hts (lw_V q239 q241 qs16 q26 q242) rfl rfl rfl (by decide +kernel) h
end
section
set_option maxHeartbeats 4000000 in
set_option maxRecDepth 100000 in
/-- follows(set, c) -/
theorem mM_follows (l : Launch) (D : va_G) (a : Nat → Nat) (d : Nat → ClassId) (n : Nat) (K : Nat → Nat) (L : Nat → Nat) (R : Nat → Nat) (kn : Prop) (F : Nat → Nat) (T : Nat → Prop) (x y : Int32) (hwf : cd_wf n K L R) (hkf : kn → ∀ Z, Z < 2 ^ n → F Z = cd_cl n K L R Z) : cd_RW (S := Prop × (Nat → Nat)) l yX1_follows (ws_ yX1_follows cX1_follows 4 (some .int)) (cd_rm 5) D (cd_tM d) (cd_wM a d n K L R kn F T) [.ref (a 0), .int (x), .int (y)] (fun r u => (r = cd_gv n y (fun j => cd_b ((cd_cl n K L R (cd_mo x n)).testBit j = true))) ∧ (u.1 → ∀ Z, Z < 2 ^ n → u.2 Z = cd_cl n K L R Z)) (fun u => cd_wM a d n K L R u.1 u.2 T) := by
  refine cd_enterRW (own := RX1) (by decide) rfl (Nat.le_of_ble_eq_true rfl) ?_
  intro A p e s m below meth c ls hx hb hr hlocks hml hown hts hK hP hl hD hA hS
  have hl : lv_has ls 4 [(0, .ref (a 0)), (1, .int (x)), (2, .int (y))] := hl
  have hn := hwf.1
  have hp11 := cd_p11 hn
  have hp1 := cd_p1 n
  refine lv_aload_n hx hb dX1_follows_0 rfl (lv_at hl 0 rfl) ?_
  refine lv_iload_n hx hb dX1_follows_1 rfl (lv_at hl 2 rfl) ?_
  refine cd_callRO ⟨hx, hb, hml, hown, hts⟩ (mM_is l D a d n K L R kn F T y) (kM_is hts ⟨Nat.le_of_ble_eq_true rfl, Nat.le_of_ble_eq_true rfl⟩) rfl rfl rfl hP hK rfl hl.1 rfl (Nat.le_of_ble_eq_true rfl) dX1_follows_2 ⟨Nat.zero_le _, Nat.zero_le _⟩ ?_
  refine cd_ifb_ne (tgt := 10) hx hb dX1_follows_5 (by decide) (fun c5 => ?_) (fun c5 => ?_)
  · obtain ⟨j, hj, rfl⟩ := cd_ix hn c5
    refine lv_aload_n hx hb dX1_follows_10 rfl (lv_at hl 0 rfl) ?_
    refine lv_iload_n hx hb dX1_follows_11 rfl (lv_at hl 1 rfl) ?_
    refine cd_callRW ⟨hx, hb, hml, hown, hts⟩ (mM_taken l D a d n K L R kn F T x hwf hkf) (kM_taken hts ⟨Nat.le_of_ble_eq_true rfl, Nat.le_of_ble_eq_true rfl⟩) rfl rfl rfl hP hK hD hS hA rfl hl.1 rfl (Nat.le_of_ble_eq_true rfl) dX1_follows_12 ⟨Nat.zero_le _, Nat.zero_le _⟩ (fun r12 u12 H locs hu12 hP hD hS => ?_)
    obtain ⟨kn1, F1⟩ := u12
    obtain ⟨hr1, hk1, hF1⟩ := hu12
    subst hr1
    have hP : va_P D cd_cls (cd_wM a d n K L R kn1 F1 T) H := hP
    have hD : va_D A (cd_wM a d n K L R kn1 F1 T) := hD
    have hF1 : ∀ Z, Z < 2 ^ n → F1 Z = cd_cl n K L R Z := hF1
    refine lv_istore_n (lv' := [(3, .int (nI (cd_mo x n))), (0, .ref (a 0)), (1, .int (x)), (2, .int (nI j))]) hx hb dX1_follows_15 rfl hl (by decide) rfl (fun ls hl => ?_)
    refine lv_aload_n hx hb dX1_follows_16 rfl (lv_at hl 1 rfl) ?_
    refine lv_aload_n hx hb dX1_follows_17 rfl (lv_at hl 1 rfl) ?_
    refine gM_follow hx hb hts hown hK hP dX1_follows_18 ?_
    refine lv_iload_n hx hb dX1_follows_21 rfl (lv_at hl 0 rfl) ?_
    refine lM_follow hx hb hK hP (cd_mo2048 x hn) dX1_follows_22 ?_
    refine cd_v (y := nI (cd_cl n K L R (cd_mo x n))) (congrArg nI (hF1 _ (cd_mo_lt x n))) ?_
    refine lv_iload_n hx hb dX1_follows_23 rfl (lv_at hl 3 rfl) ?_
    refine cd_callRO ⟨hx, hb, hml, hown, hts⟩ (mM_hasN l D a d n K L R kn1 F1 T (cd_cl n K L R (cd_mo x n)) j (by omega)) (kM_has hts ⟨Nat.le_of_ble_eq_true rfl, Nat.le_of_ble_eq_true rfl⟩) rfl rfl rfl hP hK rfl hl.1 rfl (Nat.le_of_ble_eq_true rfl) dX1_follows_24 ⟨Nat.zero_le _, Nat.zero_le _⟩ ?_
    refine cd_ifb_eq (tgt := 34) hx hb dX1_follows_27 (by decide) (fun c27 => ?_) (fun c27 => ?_)
    · refine lv_iconst (v := nI 0) hx hb dX1_follows_34 (by decide) ?_
      exact cd_retW (kn1, F1) hx hb hr hlocks (⟨by rw [cd_gv_in hn hj]; exact (cd_b0 c27).symm, fun _ => hF1⟩) hP hD hS dX1_follows_35
    · refine lv_iconst (v := nI 1) hx hb dX1_follows_30 (by decide) ?_
      refine lv_goto (tgt := 35) hx hb dX1_follows_31 (by decide) ?_
      exact cd_retW (kn1, F1) hx hb hr hlocks (⟨by rw [cd_gv_in hn hj]; exact (cd_b1 c27).symm, fun _ => hF1⟩) hP hD hS dX1_follows_35
  · refine lv_iconst (v := (-1)) hx hb dX1_follows_8 (by decide) ?_
    exact cd_retW (kn, F) hx hb hr hlocks (⟨(cd_gv_bad (Classical.not_not.mp c5)).symm, hkf⟩) hP hD hS dX1_follows_9
set_option maxHeartbeats 4000000 in
set_option maxRecDepth 100000 in
/-- all(set) -/
theorem mM_all (l : Launch) (D : va_G) (a : Nat → Nat) (d : Nat → ClassId) (n : Nat) (K : Nat → Nat) (L : Nat → Nat) (R : Nat → Nat) (kn : Prop) (F : Nat → Nat) (T : Nat → Prop) (x : Int32) (hwf : cd_wf n K L R) (hkf : kn → ∀ Z, Z < 2 ^ n → F Z = cd_cl n K L R Z) : cd_RW (S := Prop × (Nat → Nat)) l yX1_all (ws_ yX1_all cX1_all 3 (some .int)) (cd_rm 5) D (cd_tM d) (cd_wM a d n K L R kn F T) [.ref (a 0), .int (x)] (fun r u => (r = nI (cd_cl n K L R (cd_mo x n))) ∧ (u.1 → ∀ Z, Z < 2 ^ n → u.2 Z = cd_cl n K L R Z)) (fun u => cd_wM a d n K L R u.1 u.2 T) := by
  refine cd_enterRW (own := RX1) (by decide) rfl (Nat.le_of_ble_eq_true rfl) ?_
  intro A p e s m below meth c ls hx hb hr hlocks hml hown hts hK hP hl hD hA hS
  have hl : lv_has ls 3 [(0, .ref (a 0)), (1, .int (x))] := hl
  have hn := hwf.1
  have hp11 := cd_p11 hn
  have hp1 := cd_p1 n
  refine lv_aload_n hx hb dX1_all_0 rfl (lv_at hl 0 rfl) ?_
  refine lv_iload_n hx hb dX1_all_1 rfl (lv_at hl 1 rfl) ?_
  refine cd_callRW ⟨hx, hb, hml, hown, hts⟩ (mM_taken l D a d n K L R kn F T x hwf hkf) (kM_taken hts ⟨Nat.le_of_ble_eq_true rfl, Nat.le_of_ble_eq_true rfl⟩) rfl rfl rfl hP hK hD hS hA rfl hl.1 rfl (Nat.le_of_ble_eq_true rfl) dX1_all_2 ⟨Nat.zero_le _, Nat.zero_le _⟩ (fun r2 u2 H locs hu2 hP hD hS => ?_)
  obtain ⟨kn1, F1⟩ := u2
  obtain ⟨hr1, hk1, hF1⟩ := hu2
  subst hr1
  have hP : va_P D cd_cls (cd_wM a d n K L R kn1 F1 T) H := hP
  have hD : va_D A (cd_wM a d n K L R kn1 F1 T) := hD
  have hF1 : ∀ Z, Z < 2 ^ n → F1 Z = cd_cl n K L R Z := hF1
  refine lv_istore_n (lv' := [(2, .int (nI (cd_mo x n))), (0, .ref (a 0)), (1, .int (x))]) hx hb dX1_all_5 rfl hl (by decide) rfl (fun ls hl => ?_)
  refine lv_aload_n hx hb dX1_all_6 rfl (lv_at hl 1 rfl) ?_
  refine gM_follow hx hb hts hown hK hP dX1_all_7 ?_
  refine lv_iload_n hx hb dX1_all_10 rfl (lv_at hl 0 rfl) ?_
  refine lM_follow hx hb hK hP (cd_mo2048 x hn) dX1_all_11 ?_
  exact cd_retW (kn1, F1) hx hb hr hlocks (⟨congrArg nI (hF1 _ (cd_mo_lt x n)), fun _ => hF1⟩) hP hD hS dX1_all_12
set_option maxHeartbeats 4000000 in
set_option maxRecDepth 100000 in
/-- alike(i, j) -/
theorem mM_alike (l : Launch) (D : va_G) (a : Nat → Nat) (d : Nat → ClassId) (n : Nat) (K : Nat → Nat) (L : Nat → Nat) (R : Nat → Nat) (kn : Prop) (F : Nat → Nat) (T : Nat → Prop) (x y : Int32) (hwf : cd_wf n K L R) (hkf : kn → ∀ Z, Z < 2 ^ n → F Z = cd_cl n K L R Z) : cd_RW (S := Prop × (Nat → Nat)) l yX1_alike (ws_ yX1_alike cX1_alike 3 (some .int)) (cd_rm 5) D (cd_tM d) (cd_wM a d n K L R kn F T) [.ref (a 0), .int (x), .int (y)] (fun r u => (cd_al n K L R x y r) ∧ (u.1 → ∀ Z, Z < 2 ^ n → u.2 Z = cd_cl n K L R Z)) (fun u => cd_wM a d n K L R u.1 u.2 T) := by
  refine cd_enterRW (own := RX1) (by decide) rfl (Nat.le_of_ble_eq_true rfl) ?_
  intro A p e s m below meth c ls hx hb hr hlocks hml hown hts hK hP hl hD hA hS
  have hl : lv_has ls 3 [(0, .ref (a 0)), (1, .int (x)), (2, .int (y))] := hl
  have hn := hwf.1
  have hp11 := cd_p11 hn
  have hp1 := cd_p1 n
  refine lv_aload_n hx hb dX1_alike_0 rfl (lv_at hl 0 rfl) ?_
  refine lv_iload_n hx hb dX1_alike_1 rfl (lv_at hl 1 rfl) ?_
  refine cd_callRO ⟨hx, hb, hml, hown, hts⟩ (mM_is l D a d n K L R kn F T x) (kM_is hts ⟨Nat.le_of_ble_eq_true rfl, Nat.le_of_ble_eq_true rfl⟩) rfl rfl rfl hP hK rfl hl.1 rfl (Nat.le_of_ble_eq_true rfl) dX1_alike_2 ⟨Nat.zero_le _, Nat.zero_le _⟩ ?_
  refine cd_ifb_eq (tgt := 16) hx hb dX1_alike_5 (by decide) (fun c5 => ?_) (fun c5 => ?_)
  · refine lv_iconst (v := (-1)) hx hb dX1_alike_16 (by decide) ?_
    exact cd_retW (kn, F) hx hb hr hlocks (⟨Or.inl ⟨Or.inl (Classical.not_not.mp c5), rfl⟩, hkf⟩) hP hD hS dX1_alike_17
  · refine lv_aload_n hx hb dX1_alike_8 rfl (lv_at hl 0 rfl) ?_
    refine lv_iload_n hx hb dX1_alike_9 rfl (lv_at hl 2 rfl) ?_
    refine cd_callRO ⟨hx, hb, hml, hown, hts⟩ (mM_is l D a d n K L R kn F T y) (kM_is hts ⟨Nat.le_of_ble_eq_true rfl, Nat.le_of_ble_eq_true rfl⟩) rfl rfl rfl hP hK rfl hl.1 rfl (Nat.le_of_ble_eq_true rfl) dX1_alike_10 ⟨Nat.zero_le _, Nat.zero_le _⟩ ?_
    refine cd_ifb_ne (tgt := 18) hx hb dX1_alike_13 (by decide) (fun c13 => ?_) (fun c13 => ?_)
    · obtain ⟨i, hi, rfl⟩ := cd_ix hn c5
      obtain ⟨j, hj, rfl⟩ := cd_ix hn c13
      have hpi := cd_pwlt hi
      have hpj := cd_pwlt hj
      refine lv_aload_n hx hb dX1_alike_18 rfl (lv_at hl 0 rfl) ?_
      refine cd_callRV ⟨hx, hb, hml, hown, hts⟩ (mM_work l D a d n K L R kn F T hwf hkf) (kM_work hts ⟨Nat.le_of_ble_eq_true rfl, Nat.le_of_ble_eq_true rfl⟩) rfl rfl rfl hP hK hD hS hA rfl hl.1 rfl (Nat.le_of_ble_eq_true rfl) dX1_alike_19 ⟨Nat.zero_le _, Nat.zero_le _⟩ (fun u19 H locs hu19 hP hD hS => ?_)
      obtain ⟨kn1, F1⟩ := u19
      obtain ⟨hk1, hF1⟩ := hu19
      have hP : va_P D cd_cls (cd_wM a d n K L R kn1 F1 T) H := hP
      have hD : va_D A (cd_wM a d n K L R kn1 F1 T) := hD
      have hF1 : ∀ Z, Z < 2 ^ n → F1 Z = cd_cl n K L R Z := hF1
      refine lv_aload_n hx hb dX1_alike_22 rfl (lv_at hl 0 rfl) ?_
      refine lv_aload_n hx hb dX1_alike_23 rfl (lv_at hl 0 rfl) ?_
      refine gM_follow hx hb hts hown hK hP dX1_alike_24 ?_
      refine lv_iconst (v := nI 1) hx hb dX1_alike_27 (by decide) ?_
      refine lv_iload_n hx hb dX1_alike_28 rfl (lv_at hl 1 rfl) ?_
      refine lv_ishl hx hb dX1_alike_29 ?_
      refine cd_v (y := nI (2 ^ i)) (cd_shl (by omega)) ?_
      refine lM_follow hx hb hK hP (by omega) dX1_alike_30 ?_
      refine cd_v (y := nI (cd_cl n K L R (2 ^ i))) (congrArg nI (hF1 _ hpi)) ?_
      refine lv_iload_n hx hb dX1_alike_31 rfl (lv_at hl 2 rfl) ?_
      refine cd_callRO ⟨hx, hb, hml, hown, hts⟩ (mM_hasN l D a d n K L R kn1 F1 T (cd_cl n K L R (2 ^ i)) j (by omega)) (kM_has hts ⟨Nat.le_of_ble_eq_true rfl, Nat.le_of_ble_eq_true rfl⟩) rfl rfl rfl hP hK rfl hl.1 rfl (Nat.le_of_ble_eq_true rfl) dX1_alike_32 ⟨Nat.zero_le _, Nat.zero_le _⟩ ?_
      refine cd_ifb_eq (tgt := 58) hx hb dX1_alike_35 (by decide) (fun c35 => ?_) (fun c35 => ?_)
      · refine lv_iconst (v := nI 0) hx hb dX1_alike_58 (by decide) ?_
        exact cd_retW (kn1, F1) hx hb hr hlocks (⟨Or.inr ⟨i, j, hi, hj, rfl, rfl, (cd_b0 (fun h => c35 ((cd_alike hi hj).mp h).1)).symm⟩, fun _ => hF1⟩) hP hD hS dX1_alike_59
      · refine lv_aload_n hx hb dX1_alike_38 rfl (lv_at hl 0 rfl) ?_
        refine lv_aload_n hx hb dX1_alike_39 rfl (lv_at hl 0 rfl) ?_
        refine gM_follow hx hb hts hown hK hP dX1_alike_40 ?_
        refine lv_iconst (v := nI 1) hx hb dX1_alike_43 (by decide) ?_
        refine lv_iload_n hx hb dX1_alike_44 rfl (lv_at hl 2 rfl) ?_
        refine lv_ishl hx hb dX1_alike_45 ?_
        refine cd_v (y := nI (2 ^ j)) (cd_shl (by omega)) ?_
        refine lM_follow hx hb hK hP (by omega) dX1_alike_46 ?_
        refine cd_v (y := nI (cd_cl n K L R (2 ^ j))) (congrArg nI (hF1 _ hpj)) ?_
        refine lv_iload_n hx hb dX1_alike_47 rfl (lv_at hl 1 rfl) ?_
        refine cd_callRO ⟨hx, hb, hml, hown, hts⟩ (mM_hasN l D a d n K L R kn1 F1 T (cd_cl n K L R (2 ^ j)) i (by omega)) (kM_has hts ⟨Nat.le_of_ble_eq_true rfl, Nat.le_of_ble_eq_true rfl⟩) rfl rfl rfl hP hK rfl hl.1 rfl (Nat.le_of_ble_eq_true rfl) dX1_alike_48 ⟨Nat.zero_le _, Nat.zero_le _⟩ ?_
        refine cd_ifb_eq (tgt := 58) hx hb dX1_alike_51 (by decide) (fun c51 => ?_) (fun c51 => ?_)
        · refine lv_iconst (v := nI 0) hx hb dX1_alike_58 (by decide) ?_
          exact cd_retW (kn1, F1) hx hb hr hlocks (⟨Or.inr ⟨i, j, hi, hj, rfl, rfl, (cd_b0 (fun h => c51 ((cd_alike hi hj).mp h).2)).symm⟩, fun _ => hF1⟩) hP hD hS dX1_alike_59
        · refine lv_iconst (v := nI 1) hx hb dX1_alike_54 (by decide) ?_
          refine lv_goto (tgt := 59) hx hb dX1_alike_55 (by decide) ?_
          exact cd_retW (kn1, F1) hx hb hr hlocks (⟨Or.inr ⟨i, j, hi, hj, rfl, rfl, (cd_b1 ((cd_alike hi hj).mpr ⟨c35, c51⟩)).symm⟩, fun _ => hF1⟩) hP hD hS dX1_alike_59
    · refine lv_iconst (v := (-1)) hx hb dX1_alike_16 (by decide) ?_
      exact cd_retW (kn, F) hx hb hr hlocks (⟨Or.inl ⟨Or.inr (Classical.not_not.mp c13), rfl⟩, hkf⟩) hP hD hS dX1_alike_17
end
section
set_option maxHeartbeats 4000000 in
set_option maxRecDepth 100000 in
/-- judge(choice) -/
theorem mM_judge (l : Launch) (D : va_G) (a : Nat → Nat) (d : Nat → ClassId) (n : Nat) (K : Nat → Nat) (L : Nat → Nat) (R : Nat → Nat) (kn : Prop) (F : Nat → Nat) (T : Nat → Prop) (ch : Nat) (hwf : cd_wf n K L R) : cd_RV (S := Nat → Prop) l yX1_judge (ws_ yX1_judge cX1_judge 5 none) (cd_rm 1) D (cd_tM d) (cd_wM a d n K L R kn F T) [.ref (a 0), .int (nI ch)] (fun u => ∀ j, j < n → (u j ↔ (cd_tf K L R ch n).testBit j = true)) (fun u => cd_wM a d n K L R kn F u) := by
  refine cd_enterRV (own := RX1) (by decide) rfl (Nat.le_of_ble_eq_true rfl) ?_
  intro A p e s m below meth c ls hx hb hr hlocks hml hown hts hK hP hl hD hA hS
  have hl : lv_has ls 5 [(0, .ref (a 0)), (1, .int (nI ch))] := hl
  have hn := hwf.1
  have hp11 := cd_p11 hn
  have hp1 := cd_p1 n
  refine lv_iconst (v := nI 0) hx hb dX1_judge_0 (by decide) ?_
  refine lv_istore_n (lv' := [(2, .int (nI 0)), (0, .ref (a 0)), (1, .int (nI ch))]) hx hb dX1_judge_1 rfl hl (by decide) rfl (fun ls hl => ?_)
  refine cd_loopW (fun N_ H_ locs_ ls_ => ∃ (i : Nat) (T1 : Nat → Prop), N_ = n - i ∧ i ≤ n ∧ (∀ j, j < i → (T1 j ↔ (cd_tf K L R ch i).testBit j = true)) ∧ va_P D cd_cls (cd_wM a d n K L R kn F T1) H_ ∧ va_D A (cd_wM a d n K L R kn F T1) ∧ va_S A s.heap H_ locs_ ∧ lv_has ls_ 5 [(0, .ref (a 0)), (1, .int (nI ch)), (2, .int (nI i))]) ?_ _ ⟨0, T, rfl, (by omega), cd_all0, hP, hD, hS, lv_sub hl [1, 2, 0] rfl⟩
  intro N2 H locs ls hI2 ih2
  obtain ⟨i, T1, hN2, hi, hT, hP, hD, hS, hl⟩ := hI2
  refine lv_iload_n hx hb dX1_judge_2 rfl (lv_at hl 2 rfl) ?_
  refine lv_aload_n hx hb dX1_judge_3 rfl (lv_at hl 0 rfl) ?_
  refine gM_size hx hb hts hown hK hP dX1_judge_4 ?_
  refine cd_icmp_ge (tgt := 191) (by omega) (by omega) hx hb dX1_judge_7 (by decide) (fun c7 => ?_) (fun c7 => ?_)
  · exact cd_retV T1 hx hb hr hlocks (by rw [← Nat.le_antisymm hi c7]; exact hT) hP hD hS dX1_judge_191
  · obtain ⟨w1, w2, w3, w4⟩ := hwf.2 i c7
    refine lv_aload_n hx hb dX1_judge_10 rfl (lv_at hl 0 rfl) ?_
    refine gM_lefts hx hb hts hown hK hP dX1_judge_11 ?_
    refine lv_iload_n hx hb dX1_judge_14 rfl (lv_at hl 2 rfl) ?_
    refine lM_lefts hx hb hK hP (by omega) dX1_judge_15 ?_
    refine lv_istore_n (lv' := [(3, .int (nI (L i))), (0, .ref (a 0)), (1, .int (nI ch)), (2, .int (nI i))]) hx hb dX1_judge_16 rfl hl (by decide) rfl (fun ls hl => ?_)
    refine lv_aload_n hx hb dX1_judge_17 rfl (lv_at hl 1 rfl) ?_
    refine gM_rights hx hb hts hown hK hP dX1_judge_18 ?_
    refine lv_iload_n hx hb dX1_judge_21 rfl (lv_at hl 3 rfl) ?_
    refine lM_rights hx hb hK hP (by omega) dX1_judge_22 ?_
    refine lv_istore (lv' := [(4, .int (nI (R i))), (3, .int (nI (L i))), (0, .ref (a 0)), (1, .int (nI ch)), (2, .int (nI i))]) hx hb dX1_judge_23 hl (by decide) rfl (fun ls hl => ?_)
    refine lv_aload_n hx hb dX1_judge_25 rfl (lv_at hl 2 rfl) ?_
    refine gM_sorts hx hb hts hown hK hP dX1_judge_26 ?_
    refine lv_iload_n hx hb dX1_judge_29 rfl (lv_at hl 4 rfl) ?_
    refine lM_sorts hx hb hK hP (by omega) dX1_judge_30 ?_
    refine lv_iconst (v := nI 3) hx hb dX1_judge_31 (by decide) ?_
    refine cd_icmp_ne (tgt := 50) (by omega) (by omega) hx hb dX1_judge_32 (by decide) (fun c32 => ?_) (fun c32 => ?_)
    · refine lv_aload_n hx hb dX1_judge_50 rfl (lv_at hl 2 rfl) ?_
      refine gM_sorts hx hb hts hown hK hP dX1_judge_51 ?_
      refine lv_iload_n hx hb dX1_judge_54 rfl (lv_at hl 4 rfl) ?_
      refine lM_sorts hx hb hK hP (by omega) dX1_judge_55 ?_
      refine lv_iconst (v := nI 4) hx hb dX1_judge_56 (by decide) ?_
      refine cd_icmp_ne (tgt := 70) (by omega) (by omega) hx hb dX1_judge_57 (by decide) (fun c57 => ?_) (fun c57 => ?_)
      · refine lv_aload_n hx hb dX1_judge_70 rfl (lv_at hl 2 rfl) ?_
        refine gM_sorts hx hb hts hown hK hP dX1_judge_71 ?_
        refine lv_iload_n hx hb dX1_judge_74 rfl (lv_at hl 4 rfl) ?_
        refine lM_sorts hx hb hK hP (by omega) dX1_judge_75 ?_
        refine cd_if_ne (tgt := 112) (by omega) hx hb dX1_judge_76 (by decide) (fun c76 => ?_) (fun c76 => ?_)
        · refine lv_aload_n hx hb dX1_judge_112 rfl (lv_at hl 2 rfl) ?_
          refine gM_sorts hx hb hts hown hK hP dX1_judge_113 ?_
          refine lv_iload_n hx hb dX1_judge_116 rfl (lv_at hl 4 rfl) ?_
          refine lM_sorts hx hb hK hP (by omega) dX1_judge_117 ?_
          refine lv_iconst (v := nI 1) hx hb dX1_judge_118 (by decide) ?_
          refine cd_icmp_ne (tgt := 155) (by omega) (by omega) hx hb dX1_judge_119 (by decide) (fun c119 => ?_) (fun c119 => ?_)
          · have e0 : K i = 2 := by omega
            obtain ⟨w5, w6⟩ := w4 (by omega)
            have e1 := (hT (L i) w5).symm
            have e2 := (hT (R i) w6).symm
            refine lv_aload_n hx hb dX1_judge_155 rfl (lv_at hl 2 rfl) ?_
            refine gM_truth hx hb hts hown hK hP dX1_judge_156 ?_
            refine lv_iload_n hx hb dX1_judge_159 rfl (lv_at hl 4 rfl) ?_
            refine lv_aload_n hx hb dX1_judge_160 rfl (lv_at hl 2 rfl) ?_
            refine gM_truth hx hb hts hown hK hP dX1_judge_161 ?_
            refine lv_iload_n hx hb dX1_judge_164 rfl (lv_at hl 1 rfl) ?_
            refine lM_truth hx hb hK hP (by omega) dX1_judge_165 ?_
            refine cd_ifb_eq (tgt := 179) hx hb dX1_judge_166 (by decide) (fun c166 => ?_) (fun c166 => ?_)
            · refine lv_iconst (v := nI 1) hx hb dX1_judge_179 (by decide) ?_
              refine lv_goto (tgt := 184) hx hb dX1_judge_180 (by decide) ?_
              refine cd_v (y := cd_b True) (cd_b1 trivial).symm ?_
              refine tM_truth hx hb hK hP hD hS (by omega) dX1_judge_184 (fun H locs hP hD hS => ?_)
              refine lv_iinc (v := nI (i + 1)) (lv' := [(2, .int (nI (i + 1))), (4, .int (nI (R i))), (3, .int (nI (L i))), (0, .ref (a 0)), (1, .int (nI ch))]) hx hb dX1_judge_185 hl (k := 4) rfl (cd_inc _) (by decide) rfl (fun ls hl => ?_)
              refine lv_goto (tgt := 2) hx hb dX1_judge_188 (by decide) ?_
              exact ih2 _ _ _ _ (by omega) ⟨i + 1, cd_upP T1 i True, rfl, (by omega), (cd_jd (n := n) hT (by simp [cd_tg, c7, c32, c57, c76, c119, e0, e1, e2, c166])), hP, hD, hS, lv_sub hl [3, 4, 0] rfl⟩
            · refine lv_aload_n hx hb dX1_judge_169 rfl (lv_at hl 2 rfl) ?_
              refine gM_truth hx hb hts hown hK hP dX1_judge_170 ?_
              refine lv_iload hx hb dX1_judge_173 (lv_at hl 0 rfl) ?_
              refine lM_truth hx hb hK hP (by omega) dX1_judge_175 ?_
              refine cd_ifb_eq (tgt := 183) hx hb dX1_judge_176 (by decide) (fun c176 => ?_) (fun c176 => ?_)
              · refine lv_iconst (v := nI 0) hx hb dX1_judge_183 (by decide) ?_
                refine cd_v (y := cd_b False) (cd_b0 (fun h => h)).symm ?_
                refine tM_truth hx hb hK hP hD hS (by omega) dX1_judge_184 (fun H locs hP hD hS => ?_)
                refine lv_iinc (v := nI (i + 1)) (lv' := [(2, .int (nI (i + 1))), (4, .int (nI (R i))), (3, .int (nI (L i))), (0, .ref (a 0)), (1, .int (nI ch))]) hx hb dX1_judge_185 hl (k := 4) rfl (cd_inc _) (by decide) rfl (fun ls hl => ?_)
                refine lv_goto (tgt := 2) hx hb dX1_judge_188 (by decide) ?_
                exact ih2 _ _ _ _ (by omega) ⟨i + 1, cd_upP T1 i False, rfl, (by omega), (cd_jd (n := n) hT (by simp [cd_tg, c7, c32, c57, c76, c119, e0, e1, e2, c166, c176])), hP, hD, hS, lv_sub hl [3, 4, 0] rfl⟩
              · refine lv_iconst (v := nI 1) hx hb dX1_judge_179 (by decide) ?_
                refine lv_goto (tgt := 184) hx hb dX1_judge_180 (by decide) ?_
                refine cd_v (y := cd_b True) (cd_b1 trivial).symm ?_
                refine tM_truth hx hb hK hP hD hS (by omega) dX1_judge_184 (fun H locs hP hD hS => ?_)
                refine lv_iinc (v := nI (i + 1)) (lv' := [(2, .int (nI (i + 1))), (4, .int (nI (R i))), (3, .int (nI (L i))), (0, .ref (a 0)), (1, .int (nI ch))]) hx hb dX1_judge_185 hl (k := 4) rfl (cd_inc _) (by decide) rfl (fun ls hl => ?_)
                refine lv_goto (tgt := 2) hx hb dX1_judge_188 (by decide) ?_
                exact ih2 _ _ _ _ (by omega) ⟨i + 1, cd_upP T1 i True, rfl, (by omega), (cd_jd (n := n) hT (by simp [cd_tg, c7, c32, c57, c76, c119, e0, e1, e2, c166, c176])), hP, hD, hS, lv_sub hl [3, 4, 0] rfl⟩
          · obtain ⟨w5, w6⟩ := w4 (by omega)
            have e1 := (hT (L i) w5).symm
            have e2 := (hT (R i) w6).symm
            refine lv_aload_n hx hb dX1_judge_122 rfl (lv_at hl 2 rfl) ?_
            refine gM_truth hx hb hts hown hK hP dX1_judge_123 ?_
            refine lv_iload_n hx hb dX1_judge_126 rfl (lv_at hl 4 rfl) ?_
            refine lv_aload_n hx hb dX1_judge_127 rfl (lv_at hl 2 rfl) ?_
            refine gM_truth hx hb hts hown hK hP dX1_judge_128 ?_
            refine lv_iload_n hx hb dX1_judge_131 rfl (lv_at hl 1 rfl) ?_
            refine lM_truth hx hb hK hP (by omega) dX1_judge_132 ?_
            refine cd_ifb_ne (tgt := 146) hx hb dX1_judge_133 (by decide) (fun c133 => ?_) (fun c133 => ?_)
            · refine lv_iconst (v := nI 1) hx hb dX1_judge_146 (by decide) ?_
              refine lv_goto (tgt := 151) hx hb dX1_judge_147 (by decide) ?_
              refine cd_v (y := cd_b True) (cd_b1 trivial).symm ?_
              refine tM_truth hx hb hK hP hD hS (by omega) dX1_judge_151 (fun H locs hP hD hS => ?_)
              refine lv_goto (tgt := 185) hx hb dX1_judge_152 (by decide) ?_
              refine lv_iinc (v := nI (i + 1)) (lv' := [(2, .int (nI (i + 1))), (4, .int (nI (R i))), (3, .int (nI (L i))), (0, .ref (a 0)), (1, .int (nI ch))]) hx hb dX1_judge_185 hl (k := 4) rfl (cd_inc _) (by decide) rfl (fun ls hl => ?_)
              refine lv_goto (tgt := 2) hx hb dX1_judge_188 (by decide) ?_
              exact ih2 _ _ _ _ (by omega) ⟨i + 1, cd_upP T1 i True, rfl, (by omega), (cd_jd (n := n) hT (by simp [cd_tg, c7, c32, c57, c76, c119, e1, e2, c133])), hP, hD, hS, lv_sub hl [3, 4, 0] rfl⟩
            · refine lv_aload_n hx hb dX1_judge_136 rfl (lv_at hl 2 rfl) ?_
              refine gM_truth hx hb hts hown hK hP dX1_judge_137 ?_
              refine lv_iload hx hb dX1_judge_140 (lv_at hl 0 rfl) ?_
              refine lM_truth hx hb hK hP (by omega) dX1_judge_142 ?_
              refine cd_ifb_eq (tgt := 150) hx hb dX1_judge_143 (by decide) (fun c143 => ?_) (fun c143 => ?_)
              · refine lv_iconst (v := nI 0) hx hb dX1_judge_150 (by decide) ?_
                refine cd_v (y := cd_b False) (cd_b0 (fun h => h)).symm ?_
                refine tM_truth hx hb hK hP hD hS (by omega) dX1_judge_151 (fun H locs hP hD hS => ?_)
                refine lv_goto (tgt := 185) hx hb dX1_judge_152 (by decide) ?_
                refine lv_iinc (v := nI (i + 1)) (lv' := [(2, .int (nI (i + 1))), (4, .int (nI (R i))), (3, .int (nI (L i))), (0, .ref (a 0)), (1, .int (nI ch))]) hx hb dX1_judge_185 hl (k := 4) rfl (cd_inc _) (by decide) rfl (fun ls hl => ?_)
                refine lv_goto (tgt := 2) hx hb dX1_judge_188 (by decide) ?_
                exact ih2 _ _ _ _ (by omega) ⟨i + 1, cd_upP T1 i False, rfl, (by omega), (cd_jd (n := n) hT (by simp [cd_tg, c7, c32, c57, c76, c119, e1, e2, c133, c143])), hP, hD, hS, lv_sub hl [3, 4, 0] rfl⟩
              · refine lv_iconst (v := nI 1) hx hb dX1_judge_146 (by decide) ?_
                refine lv_goto (tgt := 151) hx hb dX1_judge_147 (by decide) ?_
                refine cd_v (y := cd_b True) (cd_b1 trivial).symm ?_
                refine tM_truth hx hb hK hP hD hS (by omega) dX1_judge_151 (fun H locs hP hD hS => ?_)
                refine lv_goto (tgt := 185) hx hb dX1_judge_152 (by decide) ?_
                refine lv_iinc (v := nI (i + 1)) (lv' := [(2, .int (nI (i + 1))), (4, .int (nI (R i))), (3, .int (nI (L i))), (0, .ref (a 0)), (1, .int (nI ch))]) hx hb dX1_judge_185 hl (k := 4) rfl (cd_inc _) (by decide) rfl (fun ls hl => ?_)
                refine lv_goto (tgt := 2) hx hb dX1_judge_188 (by decide) ?_
                exact ih2 _ _ _ _ (by omega) ⟨i + 1, cd_upP T1 i True, rfl, (by omega), (cd_jd (n := n) hT (by simp [cd_tg, c7, c32, c57, c76, c119, e1, e2, c133, c143])), hP, hD, hS, lv_sub hl [3, 4, 0] rfl⟩
        · obtain ⟨w5, w6⟩ := w4 (by omega)
          have e1 := (hT (L i) w5).symm
          have e2 := (hT (R i) w6).symm
          refine lv_aload_n hx hb dX1_judge_79 rfl (lv_at hl 2 rfl) ?_
          refine gM_truth hx hb hts hown hK hP dX1_judge_80 ?_
          refine lv_iload_n hx hb dX1_judge_83 rfl (lv_at hl 4 rfl) ?_
          refine lv_aload_n hx hb dX1_judge_84 rfl (lv_at hl 2 rfl) ?_
          refine gM_truth hx hb hts hown hK hP dX1_judge_85 ?_
          refine lv_iload_n hx hb dX1_judge_88 rfl (lv_at hl 1 rfl) ?_
          refine lM_truth hx hb hK hP (by omega) dX1_judge_89 ?_
          refine cd_ifb_eq (tgt := 107) hx hb dX1_judge_90 (by decide) (fun c90 => ?_) (fun c90 => ?_)
          · refine lv_iconst (v := nI 0) hx hb dX1_judge_107 (by decide) ?_
            refine cd_v (y := cd_b False) (cd_b0 (fun h => h)).symm ?_
            refine tM_truth hx hb hK hP hD hS (by omega) dX1_judge_108 (fun H locs hP hD hS => ?_)
            refine lv_goto (tgt := 185) hx hb dX1_judge_109 (by decide) ?_
            refine lv_iinc (v := nI (i + 1)) (lv' := [(2, .int (nI (i + 1))), (4, .int (nI (R i))), (3, .int (nI (L i))), (0, .ref (a 0)), (1, .int (nI ch))]) hx hb dX1_judge_185 hl (k := 4) rfl (cd_inc _) (by decide) rfl (fun ls hl => ?_)
            refine lv_goto (tgt := 2) hx hb dX1_judge_188 (by decide) ?_
            exact ih2 _ _ _ _ (by omega) ⟨i + 1, cd_upP T1 i False, rfl, (by omega), (cd_jd (n := n) hT (by simp [cd_tg, c7, c32, c57, c76, e1, e2, c90])), hP, hD, hS, lv_sub hl [3, 4, 0] rfl⟩
          · refine lv_aload_n hx hb dX1_judge_93 rfl (lv_at hl 2 rfl) ?_
            refine gM_truth hx hb hts hown hK hP dX1_judge_94 ?_
            refine lv_iload hx hb dX1_judge_97 (lv_at hl 0 rfl) ?_
            refine lM_truth hx hb hK hP (by omega) dX1_judge_99 ?_
            refine cd_ifb_eq (tgt := 107) hx hb dX1_judge_100 (by decide) (fun c100 => ?_) (fun c100 => ?_)
            · refine lv_iconst (v := nI 0) hx hb dX1_judge_107 (by decide) ?_
              refine cd_v (y := cd_b False) (cd_b0 (fun h => h)).symm ?_
              refine tM_truth hx hb hK hP hD hS (by omega) dX1_judge_108 (fun H locs hP hD hS => ?_)
              refine lv_goto (tgt := 185) hx hb dX1_judge_109 (by decide) ?_
              refine lv_iinc (v := nI (i + 1)) (lv' := [(2, .int (nI (i + 1))), (4, .int (nI (R i))), (3, .int (nI (L i))), (0, .ref (a 0)), (1, .int (nI ch))]) hx hb dX1_judge_185 hl (k := 4) rfl (cd_inc _) (by decide) rfl (fun ls hl => ?_)
              refine lv_goto (tgt := 2) hx hb dX1_judge_188 (by decide) ?_
              exact ih2 _ _ _ _ (by omega) ⟨i + 1, cd_upP T1 i False, rfl, (by omega), (cd_jd (n := n) hT (by simp [cd_tg, c7, c32, c57, c76, e1, e2, c90, c100])), hP, hD, hS, lv_sub hl [3, 4, 0] rfl⟩
            · refine lv_iconst (v := nI 1) hx hb dX1_judge_103 (by decide) ?_
              refine lv_goto (tgt := 108) hx hb dX1_judge_104 (by decide) ?_
              refine cd_v (y := cd_b True) (cd_b1 trivial).symm ?_
              refine tM_truth hx hb hK hP hD hS (by omega) dX1_judge_108 (fun H locs hP hD hS => ?_)
              refine lv_goto (tgt := 185) hx hb dX1_judge_109 (by decide) ?_
              refine lv_iinc (v := nI (i + 1)) (lv' := [(2, .int (nI (i + 1))), (4, .int (nI (R i))), (3, .int (nI (L i))), (0, .ref (a 0)), (1, .int (nI ch))]) hx hb dX1_judge_185 hl (k := 4) rfl (cd_inc _) (by decide) rfl (fun ls hl => ?_)
              refine lv_goto (tgt := 2) hx hb dX1_judge_188 (by decide) ?_
              exact ih2 _ _ _ _ (by omega) ⟨i + 1, cd_upP T1 i True, rfl, (by omega), (cd_jd (n := n) hT (by simp [cd_tg, c7, c32, c57, c76, e1, e2, c90, c100])), hP, hD, hS, lv_sub hl [3, 4, 0] rfl⟩
      · refine lv_aload_n hx hb dX1_judge_60 rfl (lv_at hl 2 rfl) ?_
        refine gM_truth hx hb hts hown hK hP dX1_judge_61 ?_
        refine lv_iload_n hx hb dX1_judge_64 rfl (lv_at hl 4 rfl) ?_
        refine lv_iconst (v := nI 0) hx hb dX1_judge_65 (by decide) ?_
        refine cd_v (y := cd_b False) (cd_b0 (fun h => h)).symm ?_
        refine tM_truth hx hb hK hP hD hS (by omega) dX1_judge_66 (fun H locs hP hD hS => ?_)
        refine lv_goto (tgt := 185) hx hb dX1_judge_67 (by decide) ?_
        refine lv_iinc (v := nI (i + 1)) (lv' := [(2, .int (nI (i + 1))), (4, .int (nI (R i))), (3, .int (nI (L i))), (0, .ref (a 0)), (1, .int (nI ch))]) hx hb dX1_judge_185 hl (k := 4) rfl (cd_inc _) (by decide) rfl (fun ls hl => ?_)
        refine lv_goto (tgt := 2) hx hb dX1_judge_188 (by decide) ?_
        exact ih2 _ _ _ _ (by omega) ⟨i + 1, cd_upP T1 i False, rfl, (by omega), (cd_jd (n := n) hT (by simp [cd_tg, c7, c32, c57])), hP, hD, hS, lv_sub hl [3, 4, 0] rfl⟩
    · refine lv_aload_n hx hb dX1_judge_35 rfl (lv_at hl 2 rfl) ?_
      refine gM_truth hx hb hts hown hK hP dX1_judge_36 ?_
      refine lv_iload_n hx hb dX1_judge_39 rfl (lv_at hl 4 rfl) ?_
      refine lv_aload_n hx hb dX1_judge_40 rfl (lv_at hl 2 rfl) ?_
      refine lv_iload_n hx hb dX1_judge_41 rfl (lv_at hl 3 rfl) ?_
      refine lv_iload_n hx hb dX1_judge_42 rfl (lv_at hl 1 rfl) ?_
      refine cd_callRO ⟨hx, hb, hml, hown, hts⟩ (mM_hasN l D a d n K L R kn F T1 ch (L i) (by omega)) (kM_has hts ⟨Nat.le_of_ble_eq_true rfl, Nat.le_of_ble_eq_true rfl⟩) rfl rfl rfl hP hK rfl hl.1 rfl (Nat.le_of_ble_eq_true rfl) dX1_judge_43 ⟨Nat.zero_le _, Nat.zero_le _⟩ ?_
      refine tM_truth hx hb hK hP hD hS (by omega) dX1_judge_46 (fun H locs hP hD hS => ?_)
      refine lv_goto (tgt := 185) hx hb dX1_judge_47 (by decide) ?_
      refine lv_iinc (v := nI (i + 1)) (lv' := [(2, .int (nI (i + 1))), (4, .int (nI (R i))), (3, .int (nI (L i))), (0, .ref (a 0)), (1, .int (nI ch))]) hx hb dX1_judge_185 hl (k := 4) rfl (cd_inc _) (by decide) rfl (fun ls hl => ?_)
      refine lv_goto (tgt := 2) hx hb dX1_judge_188 (by decide) ?_
      exact ih2 _ _ _ _ (by omega) ⟨i + 1, cd_upP T1 i (ch.testBit (L i) = true), rfl, (by omega), (cd_jd (n := n) hT (by simp [cd_tg, c7, c32])), hP, hD, hS, lv_sub hl [3, 4, 0] rfl⟩
theorem kM_judge {R0 : Room} {s : State} {args : Array Value} (hts : ∀ w ∈ lw_all, w.before args s = true) (h : (cd_rm 1).frames + 1 ≤ R0.frames ∧ 8 + (5 + 11) + (cd_rm 1).locals ≤ R0.locals) : CallW R0 s args RX1 RX1 62 yX1_judge cX1_judge 5 none (ws_ yX1_judge cX1_judge 5 none) (cd_rm 1) 0 0 1 := cwV 1 hts (lw_V q267 q269 qs21 q26 q270) rfl rfl rfl (by decide +kernel) h
set_option maxHeartbeats 4000000 in
set_option maxRecDepth 100000 in
/-- classically(set, c) -/
theorem mM_classically (l : Launch) (D : va_G) (a : Nat → Nat) (d : Nat → ClassId) (n : Nat) (K : Nat → Nat) (L : Nat → Nat) (R : Nat → Nat) (kn : Prop) (F : Nat → Nat) (T : Nat → Prop) (x y : Int32) (hwf : cd_wf n K L R) : cd_RW (S := Nat → Prop) l yX1_classically (ws_ yX1_classically cX1_classically 6 (some .int)) (cd_rm 2) D (cd_tM d) (cd_wM a d n K L R kn F T) [.ref (a 0), .int (x), .int (y)] (fun r (_ : Nat → Prop) => r = cd_gv n y (fun j => cd_b (cd_cy n K L R (cd_mo x n) j))) (fun u => cd_wM a d n K L R kn F u) := by
  refine cd_enterRW (own := RX1) (by decide) rfl (Nat.le_of_ble_eq_true rfl) ?_
  intro A p e s m below meth c ls hx hb hr hlocks hml hown hts hK hP hl hD hA hS
  have hl : lv_has ls 6 [(0, .ref (a 0)), (1, .int (x)), (2, .int (y))] := hl
  have hn := hwf.1
  have hp11 := cd_p11 hn
  have hp1 := cd_p1 n
  refine lv_aload_n hx hb dX1_classically_0 rfl (lv_at hl 0 rfl) ?_
  refine lv_iload_n hx hb dX1_classically_1 rfl (lv_at hl 2 rfl) ?_
  refine cd_callRO ⟨hx, hb, hml, hown, hts⟩ (mM_is l D a d n K L R kn F T y) (kM_is hts ⟨Nat.le_of_ble_eq_true rfl, Nat.le_of_ble_eq_true rfl⟩) rfl rfl rfl hP hK rfl hl.1 rfl (Nat.le_of_ble_eq_true rfl) dX1_classically_2 ⟨Nat.zero_le _, Nat.zero_le _⟩ ?_
  refine cd_ifb_ne (tgt := 10) hx hb dX1_classically_5 (by decide) (fun c5 => ?_) (fun c5 => ?_)
  · obtain ⟨j, hj, rfl⟩ := cd_ix hn c5
    refine lv_iconst (v := nI 0) hx hb dX1_classically_10 (by decide) ?_
    refine lv_istore_n (lv' := [(3, .int (nI 0)), (0, .ref (a 0)), (1, .int (x)), (2, .int (nI j))]) hx hb dX1_classically_11 rfl hl (by decide) rfl (fun ls hl => ?_)
    refine cd_loopW (fun N_ H_ locs_ ls_ => ∃ (ch : Nat) (T1 : Nat → Prop), N_ = 16 - ch ∧ ch ≤ 16 ∧ (∀ q, q < ch → cd_sub (cd_mo x n) (cd_tf K L R q n) → (cd_tf K L R q n).testBit j = true) ∧ va_P D cd_cls (cd_wM a d n K L R kn F T1) H_ ∧ va_D A (cd_wM a d n K L R kn F T1) ∧ va_S A s.heap H_ locs_ ∧ lv_has ls_ 6 [(0, .ref (a 0)), (1, .int (x)), (2, .int (nI j)), (3, .int (nI ch))]) ?_ _ ⟨0, T, rfl, (by omega), cd_all0, hP, hD, hS, lv_sub hl [1, 2, 3, 0] rfl⟩
    intro N12 H locs ls hI12 ih12
    obtain ⟨ch, T1, hN12, hch, hcy, hP, hD, hS, hl⟩ := hI12
    refine lv_iload_n hx hb dX1_classically_12 rfl (lv_at hl 3 rfl) ?_
    refine lv_bipush (v := nI 16) hx hb dX1_classically_13 (by decide) ?_
    refine cd_icmp_ge (tgt := 98) (by omega) (by omega) hx hb dX1_classically_15 (by decide) (fun c15 => ?_) (fun c15 => ?_)
    · refine lv_iconst (v := nI 1) hx hb dX1_classically_98 (by decide) ?_
      exact cd_retW T1 hx hb hr hlocks (by rw [cd_gv_in hn hj]; exact (cd_b1 (fun q hq => hcy q (by omega))).symm) hP hD hS dX1_classically_99
    · refine lv_aload_n hx hb dX1_classically_18 rfl (lv_at hl 0 rfl) ?_
      refine lv_iload_n hx hb dX1_classically_19 rfl (lv_at hl 3 rfl) ?_
      refine cd_callRV ⟨hx, hb, hml, hown, hts⟩ (mM_judge l D a d n K L R kn F T1 ch hwf) (kM_judge hts ⟨Nat.le_of_ble_eq_true rfl, Nat.le_of_ble_eq_true rfl⟩) rfl rfl rfl hP hK hD hS hA rfl hl.1 rfl (Nat.le_of_ble_eq_true rfl) dX1_classically_20 ⟨Nat.zero_le _, Nat.zero_le _⟩ (fun u20 H locs hu20 hP hD hS => ?_)
      obtain ⟨T2, rfl⟩ : ∃ z, z = u20 := ⟨_, rfl⟩
      have hP : va_P D cd_cls (cd_wM a d n K L R kn F T2) H := hP
      have hD : va_D A (cd_wM a d n K L R kn F T2) := hD
      have hT2 := hu20
      refine lv_iconst (v := nI 1) hx hb dX1_classically_23 (by decide) ?_
      refine cd_v (y := cd_b (∀ q, q < 0 → cd_tb x q → T2 q)) ((cd_b1 cd_all0).symm) ?_
      refine lv_istore (lv' := [(4, .int (cd_b (∀ q, q < 0 → cd_tb x q → T2 q))), (0, .ref (a 0)), (1, .int (x)), (2, .int (nI j)), (3, .int (nI ch))]) hx hb dX1_classically_24 hl (by decide) rfl (fun ls hl => ?_)
      refine lv_iconst (v := nI 0) hx hb dX1_classically_26 (by decide) ?_
      refine lv_istore (lv' := [(5, .int (nI 0)), (4, .int (cd_b (∀ q, q < 0 → cd_tb x q → T2 q))), (0, .ref (a 0)), (1, .int (x)), (2, .int (nI j)), (3, .int (nI ch))]) hx hb dX1_classically_27 hl (by decide) rfl (fun ls hl => ?_)
      refine cd_loopR (fun N_ ls_ => ∃ (i : Nat), N_ = n - i ∧ i ≤ n ∧ (lv_has ls_ 6 [(0, .ref (a 0)), (1, .int (x)), (2, .int (nI j)), (3, .int (nI ch)), (4, .int (cd_b (∀ q, q < i → cd_tb x q → T2 q))), (5, .int (nI i))])) ?_ _ ⟨0, rfl, (by omega), lv_sub hl [2, 3, 4, 5, 1, 0] rfl⟩
      intro N29 ls hI29 ih29
      obtain ⟨i, hN29, hi, hl⟩ := hI29
      refine lv_iload hx hb dX1_classically_29 (lv_at hl 5 rfl) ?_
      refine lv_aload_n hx hb dX1_classically_31 rfl (lv_at hl 0 rfl) ?_
      refine gM_size hx hb hts hown hK hP dX1_classically_32 ?_
      refine cd_icmp_ge (tgt := 76) (by omega) (by omega) hx hb dX1_classically_35 (by decide) (fun c35 => ?_) (fun c35 => ?_)
      · refine lv_iload hx hb dX1_classically_76 (lv_at hl 4 rfl) ?_
        refine cd_ifb_eq (tgt := 92) hx hb dX1_classically_78 (by decide) (fun c78 => ?_) (fun c78 => ?_)
        · refine lv_iinc (v := nI (ch + 1)) (lv' := [(3, .int (nI (ch + 1))), (0, .ref (a 0)), (1, .int (x)), (2, .int (nI j)), (4, .int (cd_b (∀ q, q < i → cd_tb x q → T2 q))), (5, .int (nI i))]) hx hb dX1_classically_92 hl (k := 3) rfl (cd_inc _) (by decide) rfl (fun ls hl => ?_)
          refine lv_goto (tgt := 12) hx hb dX1_classically_95 (by decide) ?_
          exact ih12 _ _ _ _ (by omega) ⟨ch + 1, T2, rfl, (by omega), (cd_alls hcy (fun h => absurd (fun q hq hb => (hT2 q (by omega)).mpr (cd_cs' hn h q (by omega) hb)) c78)), hP, hD, hS, lv_sub hl [1, 2, 3, 0] rfl⟩
        · refine lv_aload_n hx hb dX1_classically_81 rfl (lv_at hl 0 rfl) ?_
          refine gM_truth hx hb hts hown hK hP dX1_classically_82 ?_
          refine lv_iload_n hx hb dX1_classically_85 rfl (lv_at hl 2 rfl) ?_
          refine lM_truth hx hb hK hP (by omega) dX1_classically_86 ?_
          refine cd_ifb_ne (tgt := 92) hx hb dX1_classically_87 (by decide) (fun c87 => ?_) (fun c87 => ?_)
          · refine lv_iinc (v := nI (ch + 1)) (lv' := [(3, .int (nI (ch + 1))), (0, .ref (a 0)), (1, .int (x)), (2, .int (nI j)), (4, .int (cd_b (∀ q, q < i → cd_tb x q → T2 q))), (5, .int (nI i))]) hx hb dX1_classically_92 hl (k := 3) rfl (cd_inc _) (by decide) rfl (fun ls hl => ?_)
            refine lv_goto (tgt := 12) hx hb dX1_classically_95 (by decide) ?_
            exact ih12 _ _ _ _ (by omega) ⟨ch + 1, T2, rfl, (by omega), (cd_alls hcy (fun _ => (hT2 j hj).mp c87)), hP, hD, hS, lv_sub hl [1, 2, 3, 0] rfl⟩
          · refine lv_iconst (v := nI 0) hx hb dX1_classically_90 (by decide) ?_
            exact cd_retW T2 hx hb hr hlocks (by rw [cd_gv_in hn hj]; exact (cd_b0 (fun h => c87 ((hT2 j hj).mpr (h ch (by omega) (cd_cs hn (fun q hq hb => (hT2 q hq).mp (c78 q (by omega) hb))))))).symm) hP hD hS dX1_classically_91
      · refine lv_iload hx hb dX1_classically_38 (lv_at hl 4 rfl) ?_
        refine cd_ifb_eq (tgt := 67) hx hb dX1_classically_40 (by decide) (fun c40 => ?_) (fun c40 => ?_)
        · refine lv_iconst (v := nI 0) hx hb dX1_classically_67 (by decide) ?_
          refine cd_v (y := cd_b (∀ q, q < i + 1 → cd_tb x q → T2 q)) ((cd_b0 (fun h => c40 (cd_alld h))).symm) ?_
          refine lv_istore (lv' := [(4, .int (cd_b (∀ q, q < i + 1 → cd_tb x q → T2 q))), (0, .ref (a 0)), (1, .int (x)), (2, .int (nI j)), (3, .int (nI ch)), (5, .int (nI i))]) hx hb dX1_classically_68 hl (by decide) rfl (fun ls hl => ?_)
          refine lv_iinc (v := nI (i + 1)) (lv' := [(5, .int (nI (i + 1))), (4, .int (cd_b (∀ q, q < i + 1 → cd_tb x q → T2 q))), (0, .ref (a 0)), (1, .int (x)), (2, .int (nI j)), (3, .int (nI ch))]) hx hb dX1_classically_70 hl (k := 5) rfl (cd_inc _) (by decide) rfl (fun ls hl => ?_)
          refine lv_goto (tgt := 29) hx hb dX1_classically_73 (by decide) ?_
          exact ih29 _ _ (by omega) ⟨i + 1, rfl, (by omega), lv_sub hl [2, 3, 4, 5, 1, 0] rfl⟩
        · refine lv_aload_n hx hb dX1_classically_43 rfl (lv_at hl 0 rfl) ?_
          refine lv_iload_n hx hb dX1_classically_44 rfl (lv_at hl 1 rfl) ?_
          refine lv_iload hx hb dX1_classically_45 (lv_at hl 5 rfl) ?_
          refine cd_callRO ⟨hx, hb, hml, hown, hts⟩ (mM_has l D a d n K L R kn F T2 x i (by omega)) (kM_has hts ⟨Nat.le_of_ble_eq_true rfl, Nat.le_of_ble_eq_true rfl⟩) rfl rfl rfl hP hK rfl hl.1 rfl (Nat.le_of_ble_eq_true rfl) dX1_classically_47 ⟨Nat.zero_le _, Nat.zero_le _⟩ ?_
          refine cd_ifb_eq (tgt := 63) hx hb dX1_classically_50 (by decide) (fun c50 => ?_) (fun c50 => ?_)
          · refine lv_iconst (v := nI 1) hx hb dX1_classically_63 (by decide) ?_
            refine lv_goto (tgt := 68) hx hb dX1_classically_64 (by decide) ?_
            refine cd_v (y := cd_b (∀ q, q < i + 1 → cd_tb x q → T2 q)) ((cd_b1 (cd_alls c40 (fun h => absurd h c50))).symm) ?_
            refine lv_istore (lv' := [(4, .int (cd_b (∀ q, q < i + 1 → cd_tb x q → T2 q))), (0, .ref (a 0)), (1, .int (x)), (2, .int (nI j)), (3, .int (nI ch)), (5, .int (nI i))]) hx hb dX1_classically_68 hl (by decide) rfl (fun ls hl => ?_)
            refine lv_iinc (v := nI (i + 1)) (lv' := [(5, .int (nI (i + 1))), (4, .int (cd_b (∀ q, q < i + 1 → cd_tb x q → T2 q))), (0, .ref (a 0)), (1, .int (x)), (2, .int (nI j)), (3, .int (nI ch))]) hx hb dX1_classically_70 hl (k := 5) rfl (cd_inc _) (by decide) rfl (fun ls hl => ?_)
            refine lv_goto (tgt := 29) hx hb dX1_classically_73 (by decide) ?_
            exact ih29 _ _ (by omega) ⟨i + 1, rfl, (by omega), lv_sub hl [2, 3, 4, 5, 1, 0] rfl⟩
          · refine lv_aload_n hx hb dX1_classically_53 rfl (lv_at hl 0 rfl) ?_
            refine gM_truth hx hb hts hown hK hP dX1_classically_54 ?_
            refine lv_iload hx hb dX1_classically_57 (lv_at hl 5 rfl) ?_
            refine lM_truth hx hb hK hP (by omega) dX1_classically_59 ?_
            refine cd_ifb_eq (tgt := 67) hx hb dX1_classically_60 (by decide) (fun c60 => ?_) (fun c60 => ?_)
            · refine lv_iconst (v := nI 0) hx hb dX1_classically_67 (by decide) ?_
              refine cd_v (y := cd_b (∀ q, q < i + 1 → cd_tb x q → T2 q)) ((cd_b0 (fun h => c60 (h i (Nat.lt_succ_self i) c50))).symm) ?_
              refine lv_istore (lv' := [(4, .int (cd_b (∀ q, q < i + 1 → cd_tb x q → T2 q))), (0, .ref (a 0)), (1, .int (x)), (2, .int (nI j)), (3, .int (nI ch)), (5, .int (nI i))]) hx hb dX1_classically_68 hl (by decide) rfl (fun ls hl => ?_)
              refine lv_iinc (v := nI (i + 1)) (lv' := [(5, .int (nI (i + 1))), (4, .int (cd_b (∀ q, q < i + 1 → cd_tb x q → T2 q))), (0, .ref (a 0)), (1, .int (x)), (2, .int (nI j)), (3, .int (nI ch))]) hx hb dX1_classically_70 hl (k := 5) rfl (cd_inc _) (by decide) rfl (fun ls hl => ?_)
              refine lv_goto (tgt := 29) hx hb dX1_classically_73 (by decide) ?_
              exact ih29 _ _ (by omega) ⟨i + 1, rfl, (by omega), lv_sub hl [2, 3, 4, 5, 1, 0] rfl⟩
            · refine lv_iconst (v := nI 1) hx hb dX1_classically_63 (by decide) ?_
              refine lv_goto (tgt := 68) hx hb dX1_classically_64 (by decide) ?_
              refine cd_v (y := cd_b (∀ q, q < i + 1 → cd_tb x q → T2 q)) ((cd_b1 (cd_alls c40 (fun _ => c60))).symm) ?_
              refine lv_istore (lv' := [(4, .int (cd_b (∀ q, q < i + 1 → cd_tb x q → T2 q))), (0, .ref (a 0)), (1, .int (x)), (2, .int (nI j)), (3, .int (nI ch)), (5, .int (nI i))]) hx hb dX1_classically_68 hl (by decide) rfl (fun ls hl => ?_)
              refine lv_iinc (v := nI (i + 1)) (lv' := [(5, .int (nI (i + 1))), (4, .int (cd_b (∀ q, q < i + 1 → cd_tb x q → T2 q))), (0, .ref (a 0)), (1, .int (x)), (2, .int (nI j)), (3, .int (nI ch))]) hx hb dX1_classically_70 hl (k := 5) rfl (cd_inc _) (by decide) rfl (fun ls hl => ?_)
              refine lv_goto (tgt := 29) hx hb dX1_classically_73 (by decide) ?_
              exact ih29 _ _ (by omega) ⟨i + 1, rfl, (by omega), lv_sub hl [2, 3, 4, 5, 1, 0] rfl⟩
  · refine lv_iconst (v := (-1)) hx hb dX1_classically_8 (by decide) ?_
    exact cd_retW T hx hb hr hlocks ((cd_gv_bad (Classical.not_not.mp c5)).symm) hP hD hS dX1_classically_9
end
section
set_option maxHeartbeats 4000000 in
set_option maxRecDepth 100000 in
/-- enough(set, c) -/
theorem mM_enough (l : Launch) (D : va_G) (a : Nat → Nat) (d : Nat → ClassId) (n : Nat) (K : Nat → Nat) (L : Nat → Nat) (R : Nat → Nat) (kn : Prop) (F : Nat → Nat) (T : Nat → Prop) (x y : Int32) (hwf : cd_wf n K L R) (hkf : kn → ∀ Z, Z < 2 ^ n → F Z = cd_cl n K L R Z) : cd_RW (S := Prop × (Nat → Nat)) l yX1_enough (ws_ yX1_enough cX1_enough 8 (some .int)) (cd_rm 5) D (cd_tM d) (cd_wM a d n K L R kn F T) [.ref (a 0), .int (x), .int (y)] (fun r u => (cd_gd n y (fun j r => cd_en n K L R (cd_mo x n) j r) r) ∧ (u.1 → ∀ Z, Z < 2 ^ n → u.2 Z = cd_cl n K L R Z)) (fun u => cd_wM a d n K L R u.1 u.2 T) := by
  refine cd_enterRW (own := RX1) (by decide) rfl (Nat.le_of_ble_eq_true rfl) ?_
  intro A p e s m below meth c ls hx hb hr hlocks hml hown hts hK hP hl hD hA hS
  have hl : lv_has ls 8 [(0, .ref (a 0)), (1, .int (x)), (2, .int (y))] := hl
  have hn := hwf.1
  have hp11 := cd_p11 hn
  have hp1 := cd_p1 n
  refine lv_aload_n hx hb dX1_enough_0 rfl (lv_at hl 0 rfl) ?_
  refine lv_iload_n hx hb dX1_enough_1 rfl (lv_at hl 2 rfl) ?_
  refine cd_callRO ⟨hx, hb, hml, hown, hts⟩ (mM_is l D a d n K L R kn F T y) (kM_is hts ⟨Nat.le_of_ble_eq_true rfl, Nat.le_of_ble_eq_true rfl⟩) rfl rfl rfl hP hK rfl hl.1 rfl (Nat.le_of_ble_eq_true rfl) dX1_enough_2 ⟨Nat.zero_le _, Nat.zero_le _⟩ ?_
  refine cd_ifb_ne (tgt := 10) hx hb dX1_enough_5 (by decide) (fun c5 => ?_) (fun c5 => ?_)
  · obtain ⟨j, hj, rfl⟩ := cd_ix hn c5
    refine lv_aload_n hx hb dX1_enough_10 rfl (lv_at hl 0 rfl) ?_
    refine lv_iload_n hx hb dX1_enough_11 rfl (lv_at hl 1 rfl) ?_
    refine cd_callRW ⟨hx, hb, hml, hown, hts⟩ (mM_taken l D a d n K L R kn F T x hwf hkf) (kM_taken hts ⟨Nat.le_of_ble_eq_true rfl, Nat.le_of_ble_eq_true rfl⟩) rfl rfl rfl hP hK hD hS hA rfl hl.1 rfl (Nat.le_of_ble_eq_true rfl) dX1_enough_12 ⟨Nat.zero_le _, Nat.zero_le _⟩ (fun r12 u12 H locs hu12 hP hD hS => ?_)
    obtain ⟨kn1, F1⟩ := u12
    obtain ⟨hr1, hk1, hF1⟩ := hu12
    subst hr1
    have hP : va_P D cd_cls (cd_wM a d n K L R kn1 F1 T) H := hP
    have hD : va_D A (cd_wM a d n K L R kn1 F1 T) := hD
    have hF1 : ∀ Z, Z < 2 ^ n → F1 Z = cd_cl n K L R Z := hF1
    refine lv_istore_n (lv' := [(3, .int (nI (cd_mo x n))), (0, .ref (a 0)), (1, .int (x)), (2, .int (nI j))]) hx hb dX1_enough_15 rfl hl (by decide) rfl (fun ls hl => ?_)
    have hmo := cd_mo_lt x n
    refine lv_bipush (v := (-4)) hx hb dX1_enough_16 (by decide) ?_
    refine lv_istore (lv' := [(4, .int ((-4))), (3, .int (nI (cd_mo x n))), (0, .ref (a 0)), (1, .int (x)), (2, .int (nI j))]) hx hb dX1_enough_18 hl (by decide) rfl (fun ls hl => ?_)
    refine lv_iconst (v := nI 0) hx hb dX1_enough_20 (by decide) ?_
    refine lv_istore (lv' := [(5, .int (nI 0)), (4, .int ((-4))), (3, .int (nI (cd_mo x n))), (0, .ref (a 0)), (1, .int (x)), (2, .int (nI j))]) hx hb dX1_enough_21 hl (by decide) rfl (fun ls hl => ?_)
    refine cd_loopR (fun N_ ls_ => ∃ (q : Nat) (v : Int32), N_ = cd_mo x n + 1 - q ∧ q ≤ cd_mo x n + 1 ∧ cd_ev n (fun z => (cd_cl n K L R z).testBit j = true) (cd_mo x n) q v ∧ lv_has ls_ 8 [(0, .ref (a 0)), (1, .int (x)), (2, .int (nI j)), (3, .int (nI (cd_mo x n))), (4, .int (v)), (5, .int (nI q))]) ?_ _ ⟨0, (-4), rfl, (by omega), cd_ev_0, lv_sub hl [3, 4, 5, 2, 1, 0] rfl⟩
    intro N23 ls hI23 ih23
    obtain ⟨q, v, hN23, hq, hev, hl⟩ := hI23
    refine lv_iload hx hb dX1_enough_23 (lv_at hl 5 rfl) ?_
    refine lv_iload_n hx hb dX1_enough_25 rfl (lv_at hl 3 rfl) ?_
    refine cd_icmp_gt (tgt := 95) (by omega) (by omega) hx hb dX1_enough_26 (by decide) (fun c26 => ?_) (fun c26 => ?_)
    · refine lv_iload hx hb dX1_enough_95 (lv_at hl 4 rfl) ?_
      exact cd_retW (kn1, F1) hx hb hr hlocks (⟨cd_gd_in hj (cd_ev_en hev c26), fun _ => hF1⟩) hP hD hS dX1_enough_97
    · refine lv_aload_n hx hb dX1_enough_29 rfl (lv_at hl 0 rfl) ?_
      refine lv_iload hx hb dX1_enough_30 (lv_at hl 5 rfl) ?_
      refine cd_callRO ⟨hx, hb, hml, hown, hts⟩ (mM_count l D a d n K L R kn1 F1 T q hn) (kM_count hts ⟨Nat.le_of_ble_eq_true rfl, Nat.le_of_ble_eq_true rfl⟩) rfl rfl rfl hP hK rfl hl.1 rfl (Nat.le_of_ble_eq_true rfl) dX1_enough_32 ⟨Nat.zero_le _, Nat.zero_le _⟩ ?_
      refine lv_istore (lv' := [(6, .int (nI (cd_pc q n))), (0, .ref (a 0)), (1, .int (x)), (2, .int (nI j)), (3, .int (nI (cd_mo x n))), (4, .int (v)), (5, .int (nI q))]) hx hb dX1_enough_35 hl (by decide) rfl (fun ls hl => ?_)
      refine lv_iload hx hb dX1_enough_37 (lv_at hl 6 rfl) ?_
      refine lv_iload_n hx hb dX1_enough_39 rfl (lv_at hl 4 rfl) ?_
      refine lv_iconst (v := (-1)) hx hb dX1_enough_40 (by decide) ?_
      refine lv_ixor hx hb dX1_enough_41 ?_
      refine lv_iand hx hb dX1_enough_42 ?_
      refine cd_v (y := nI (cd_df q (cd_mo x n))) (cd_andn _ _) ?_
      refine cd_if_ne (tgt := 65) (cd_df31 (by omega)) hx hb dX1_enough_43 (by decide) (fun c43 => ?_) (fun c43 => ?_)
      · refine lv_iconst (v := nI 0) hx hb dX1_enough_65 (by decide) ?_
        refine lv_istore (lv' := [(7, .int (nI 0)), (6, .int (nI (cd_pc q n))), (0, .ref (a 0)), (1, .int (x)), (2, .int (nI j)), (3, .int (nI (cd_mo x n))), (4, .int (v)), (5, .int (nI q))]) hx hb dX1_enough_66 hl (by decide) rfl (fun ls hl => ?_)
        refine lv_iload hx hb dX1_enough_68 (lv_at hl 0 rfl) ?_
        refine lv_if_eq (tgt := 89) hx hb dX1_enough_70 (by decide) (fun c70 => ?_) (fun z => absurd z (by decide))
        refine lv_iinc (v := nI (q + 1)) (lv' := [(5, .int (nI (q + 1))), (7, .int (nI 0)), (6, .int (nI (cd_pc q n))), (0, .ref (a 0)), (1, .int (x)), (2, .int (nI j)), (3, .int (nI (cd_mo x n))), (4, .int (v))]) hx hb dX1_enough_89 hl (k := 7) rfl (cd_inc _) (by decide) rfl (fun ls hl => ?_)
        refine lv_goto (tgt := 23) hx hb dX1_enough_92 (by decide) ?_
        exact ih23 _ _ (by omega) ⟨q + 1, v, rfl, (by omega), (cd_ev_no hev (fun h => c43 (cd_df0.mpr h.1))), lv_sub hl [3, 4, 5, 6, 7, 0] rfl⟩
      · refine lv_aload_n hx hb dX1_enough_46 rfl (lv_at hl 1 rfl) ?_
        refine lv_aload_n hx hb dX1_enough_47 rfl (lv_at hl 1 rfl) ?_
        refine gM_follow hx hb hts hown hK hP dX1_enough_48 ?_
        refine lv_iload hx hb dX1_enough_51 (lv_at hl 6 rfl) ?_
        refine lM_follow hx hb hK hP (by omega) dX1_enough_53 ?_
        refine cd_v (y := nI (cd_cl n K L R q)) (congrArg nI (hF1 _ (by omega))) ?_
        refine lv_iload_n hx hb dX1_enough_54 rfl (lv_at hl 3 rfl) ?_
        refine cd_callRO ⟨hx, hb, hml, hown, hts⟩ (mM_hasN l D a d n K L R kn1 F1 T (cd_cl n K L R q) j (by omega)) (kM_has hts ⟨Nat.le_of_ble_eq_true rfl, Nat.le_of_ble_eq_true rfl⟩) rfl rfl rfl hP hK rfl hl.1 rfl (Nat.le_of_ble_eq_true rfl) dX1_enough_55 ⟨Nat.zero_le _, Nat.zero_le _⟩ ?_
        refine cd_ifb_eq (tgt := 65) hx hb dX1_enough_58 (by decide) (fun c58 => ?_) (fun c58 => ?_)
        · refine lv_iconst (v := nI 0) hx hb dX1_enough_65 (by decide) ?_
          refine lv_istore (lv' := [(7, .int (nI 0)), (6, .int (nI (cd_pc q n))), (0, .ref (a 0)), (1, .int (x)), (2, .int (nI j)), (3, .int (nI (cd_mo x n))), (4, .int (v)), (5, .int (nI q))]) hx hb dX1_enough_66 hl (by decide) rfl (fun ls hl => ?_)
          refine lv_iload hx hb dX1_enough_68 (lv_at hl 0 rfl) ?_
          refine lv_if_eq (tgt := 89) hx hb dX1_enough_70 (by decide) (fun c70 => ?_) (fun z => absurd z (by decide))
          refine lv_iinc (v := nI (q + 1)) (lv' := [(5, .int (nI (q + 1))), (7, .int (nI 0)), (6, .int (nI (cd_pc q n))), (0, .ref (a 0)), (1, .int (x)), (2, .int (nI j)), (3, .int (nI (cd_mo x n))), (4, .int (v))]) hx hb dX1_enough_89 hl (k := 7) rfl (cd_inc _) (by decide) rfl (fun ls hl => ?_)
          refine lv_goto (tgt := 23) hx hb dX1_enough_92 (by decide) ?_
          exact ih23 _ _ (by omega) ⟨q + 1, v, rfl, (by omega), (cd_ev_no hev (fun h => c58 h.2)), lv_sub hl [3, 4, 5, 6, 7, 0] rfl⟩
        · refine lv_iconst (v := nI 1) hx hb dX1_enough_61 (by decide) ?_
          refine lv_goto (tgt := 66) hx hb dX1_enough_62 (by decide) ?_
          refine lv_istore (lv' := [(7, .int (nI 1)), (6, .int (nI (cd_pc q n))), (0, .ref (a 0)), (1, .int (x)), (2, .int (nI j)), (3, .int (nI (cd_mo x n))), (4, .int (v)), (5, .int (nI q))]) hx hb dX1_enough_66 hl (by decide) rfl (fun ls hl => ?_)
          refine lv_iload hx hb dX1_enough_68 (lv_at hl 0 rfl) ?_
          refine lv_if_eq (tgt := 89) hx hb dX1_enough_70 (by decide) (fun z => absurd z (by decide)) (fun c70 => ?_)
          refine lv_iload hx hb dX1_enough_73 (lv_at hl 6 rfl) ?_
          refine lv_if_lt (tgt := 85) hx hb dX1_enough_75 (by decide) (fun c75 => ?_) (fun c75 => ?_)
          · refine lv_iload hx hb dX1_enough_85 (lv_at hl 1 rfl) ?_
            refine lv_istore (lv' := [(4, .int (nI (cd_pc q n))), (7, .int (nI 1)), (6, .int (nI (cd_pc q n))), (0, .ref (a 0)), (1, .int (x)), (2, .int (nI j)), (3, .int (nI (cd_mo x n))), (5, .int (nI q))]) hx hb dX1_enough_87 hl (by decide) rfl (fun ls hl => ?_)
            refine lv_iinc (v := nI (q + 1)) (lv' := [(5, .int (nI (q + 1))), (4, .int (nI (cd_pc q n))), (7, .int (nI 1)), (6, .int (nI (cd_pc q n))), (0, .ref (a 0)), (1, .int (x)), (2, .int (nI j)), (3, .int (nI (cd_mo x n)))]) hx hb dX1_enough_89 hl (k := 7) rfl (cd_inc _) (by decide) rfl (fun ls hl => ?_)
            refine lv_goto (tgt := 23) hx hb dX1_enough_92 (by decide) ?_
            exact ih23 _ _ (by omega) ⟨q + 1, nI (cd_pc q n), rfl, (by omega), (cd_ev_new hn hev c75 (cd_df0.mp c43) c58), lv_sub hl [4, 5, 6, 7, 1, 0] rfl⟩
          · refine lv_iload hx hb dX1_enough_78 (lv_at hl 1 rfl) ?_
            refine lv_iload hx hb dX1_enough_80 (lv_at hl 6 rfl) ?_
            refine lv_icmp_ge (tgt := 89) hx hb dX1_enough_82 (by decide) (fun c82 => ?_) (fun c82 => ?_)
            · refine lv_iinc (v := nI (q + 1)) (lv' := [(5, .int (nI (q + 1))), (7, .int (nI 1)), (6, .int (nI (cd_pc q n))), (0, .ref (a 0)), (1, .int (x)), (2, .int (nI j)), (3, .int (nI (cd_mo x n))), (4, .int (v))]) hx hb dX1_enough_89 hl (k := 7) rfl (cd_inc _) (by decide) rfl (fun ls hl => ?_)
              refine lv_goto (tgt := 23) hx hb dX1_enough_92 (by decide) ?_
              exact ih23 _ _ (by omega) ⟨q + 1, v, rfl, (by omega), (cd_ev_keep hn hev c75 c82), lv_sub hl [3, 4, 5, 6, 7, 0] rfl⟩
            · refine lv_iload hx hb dX1_enough_85 (lv_at hl 1 rfl) ?_
              refine lv_istore (lv' := [(4, .int (nI (cd_pc q n))), (7, .int (nI 1)), (6, .int (nI (cd_pc q n))), (0, .ref (a 0)), (1, .int (x)), (2, .int (nI j)), (3, .int (nI (cd_mo x n))), (5, .int (nI q))]) hx hb dX1_enough_87 hl (by decide) rfl (fun ls hl => ?_)
              refine lv_iinc (v := nI (q + 1)) (lv' := [(5, .int (nI (q + 1))), (4, .int (nI (cd_pc q n))), (7, .int (nI 1)), (6, .int (nI (cd_pc q n))), (0, .ref (a 0)), (1, .int (x)), (2, .int (nI j)), (3, .int (nI (cd_mo x n)))]) hx hb dX1_enough_89 hl (k := 7) rfl (cd_inc _) (by decide) rfl (fun ls hl => ?_)
              refine lv_goto (tgt := 23) hx hb dX1_enough_92 (by decide) ?_
              exact ih23 _ _ (by omega) ⟨q + 1, nI (cd_pc q n), rfl, (by omega), (cd_ev_less hn hev c75 c82 (cd_df0.mp c43) c58), lv_sub hl [4, 5, 6, 7, 1, 0] rfl⟩
  · refine lv_iconst (v := (-1)) hx hb dX1_enough_8 (by decide) ?_
    exact cd_retW (kn, F) hx hb hr hlocks (⟨cd_gd_bad (Classical.not_not.mp c5), hkf⟩) hP hD hS dX1_enough_9
end
section
set_option maxHeartbeats 4000000 in
set_option maxRecDepth 100000 in
/-- isWorld(set) -/
theorem mM_isWorld (l : Launch) (D : va_G) (a : Nat → Nat) (d : Nat → ClassId) (n : Nat) (K : Nat → Nat) (L : Nat → Nat) (R : Nat → Nat) (kn : Prop) (F : Nat → Nat) (T : Nat → Prop) (t : Nat) (hwf : cd_wf n K L R) (ht : t < 2048) (hFt : F t < 2 ^ 31) : cd_RO l yX1_isWorld (ws_ yX1_isWorld cX1_isWorld 3 (some .boolean)) (cd_rm 1) D (cd_tM d) (cd_wM a d n K L R kn F T) [.ref (a 0), .int (nI t)] (cd_b (cd_tw n K L R F t)) := by
  refine cd_enterRO (own := RX1) (by decide) rfl (Nat.le_of_ble_eq_true rfl) ?_
  intro p e s m below meth c ls hx hb hr hlocks hml hown hts hK hP hl
  have hl : lv_has ls 3 [(0, .ref (a 0)), (1, .int (nI t))] := hl
  have hn := hwf.1
  have hp11 := cd_p11 hn
  have hp1 := cd_p1 n
  refine lv_aload_n hx hb dX1_isWorld_0 rfl (lv_at hl 0 rfl) ?_
  refine gM_follow hx hb hts hown hK hP dX1_isWorld_1 ?_
  refine lv_iload_n hx hb dX1_isWorld_4 rfl (lv_at hl 1 rfl) ?_
  refine lM_follow hx hb hK hP (by omega) dX1_isWorld_5 ?_
  refine lv_iload_n hx hb dX1_isWorld_6 rfl (lv_at hl 1 rfl) ?_
  refine cd_icmp_eq (tgt := 12) (hFt) (by omega) hx hb dX1_isWorld_7 (by decide) (fun c7 => ?_) (fun c7 => ?_)
  · refine lv_iconst (v := nI 0) hx hb dX1_isWorld_12 (by decide) ?_
    refine lv_istore_n (lv' := [(2, .int (nI 0)), (0, .ref (a 0)), (1, .int (nI t))]) hx hb dX1_isWorld_13 rfl hl (by decide) rfl (fun ls hl => ?_)
    refine cd_loopR (fun N_ ls_ => ∃ (i : Nat), N_ = n - i ∧ i ≤ n ∧ (∀ j, j < i → (t.testBit j = true → ¬ K j = 4) ∧ (t.testBit j = true → K j = 1 → t.testBit (L j) = true ∨ t.testBit (R j) = true)) ∧ lv_has ls_ 3 [(0, .ref (a 0)), (1, .int (nI t)), (2, .int (nI i))]) ?_ _ ⟨0, rfl, (by omega), cd_all0, lv_sub hl [1, 2, 0] rfl⟩
    intro N14 ls hI14 ih14
    obtain ⟨i, hN14, hi, hno, hl⟩ := hI14
    refine lv_iload_n hx hb dX1_isWorld_14 rfl (lv_at hl 2 rfl) ?_
    refine lv_aload_n hx hb dX1_isWorld_15 rfl (lv_at hl 0 rfl) ?_
    refine gM_size hx hb hts hown hK hP dX1_isWorld_16 ?_
    refine cd_icmp_ge (tgt := 98) (by omega) (by omega) hx hb dX1_isWorld_19 (by decide) (fun c19 => ?_) (fun c19 => ?_)
    · refine lv_iconst (v := nI 1) hx hb dX1_isWorld_98 (by decide) ?_
      refine cd_v (y := cd_b (cd_tw n K L R F t)) ((cd_b1 ⟨c7, fun j hj => hno j (by omega)⟩).symm) ?_
      exact cd_retZ hx hb hr hlocks dX1_isWorld_99
    · obtain ⟨w1, w2, w3, w4⟩ := hwf.2 i c19
      refine lv_aload_n hx hb dX1_isWorld_22 rfl (lv_at hl 0 rfl) ?_
      refine lv_iload_n hx hb dX1_isWorld_23 rfl (lv_at hl 1 rfl) ?_
      refine lv_iload_n hx hb dX1_isWorld_24 rfl (lv_at hl 2 rfl) ?_
      refine cd_callRO ⟨hx, hb, hml, hown, hts⟩ (mM_hasN l D a d n K L R kn F T t i (by omega)) (kM_has hts ⟨Nat.le_of_ble_eq_true rfl, Nat.le_of_ble_eq_true rfl⟩) rfl rfl rfl hP hK rfl hl.1 rfl (Nat.le_of_ble_eq_true rfl) dX1_isWorld_25 ⟨Nat.zero_le _, Nat.zero_le _⟩ ?_
      refine cd_ifb_eq (tgt := 43) hx hb dX1_isWorld_28 (by decide) (fun c28 => ?_) (fun c28 => ?_)
      · refine lv_aload_n hx hb dX1_isWorld_43 rfl (lv_at hl 0 rfl) ?_
        refine lv_iload_n hx hb dX1_isWorld_44 rfl (lv_at hl 1 rfl) ?_
        refine lv_iload_n hx hb dX1_isWorld_45 rfl (lv_at hl 2 rfl) ?_
        refine cd_callRO ⟨hx, hb, hml, hown, hts⟩ (mM_hasN l D a d n K L R kn F T t i (by omega)) (kM_has hts ⟨Nat.le_of_ble_eq_true rfl, Nat.le_of_ble_eq_true rfl⟩) rfl rfl rfl hP hK rfl hl.1 rfl (Nat.le_of_ble_eq_true rfl) dX1_isWorld_46 ⟨Nat.zero_le _, Nat.zero_le _⟩ ?_
        refine cd_ifb_eq (tgt := 92) hx hb dX1_isWorld_49 (by decide) (fun c49 => ?_) (fun c49 => ?_)
        · refine lv_iinc (v := nI (i + 1)) (lv' := [(2, .int (nI (i + 1))), (0, .ref (a 0)), (1, .int (nI t))]) hx hb dX1_isWorld_92 hl (k := 2) rfl (cd_inc _) (by decide) rfl (fun ls hl => ?_)
          refine lv_goto (tgt := 14) hx hb dX1_isWorld_95 (by decide) ?_
          exact ih14 _ _ (by omega) ⟨i + 1, rfl, (by omega), (cd_alls hno ⟨fun h => absurd h c28, fun h => absurd h c49⟩), lv_sub hl [1, 2, 0] rfl⟩
        · refine lv_aload_n hx hb dX1_isWorld_52 rfl (lv_at hl 0 rfl) ?_
          refine gM_sorts hx hb hts hown hK hP dX1_isWorld_53 ?_
          refine lv_iload_n hx hb dX1_isWorld_56 rfl (lv_at hl 2 rfl) ?_
          refine lM_sorts hx hb hK hP (by omega) dX1_isWorld_57 ?_
          refine lv_iconst (v := nI 1) hx hb dX1_isWorld_58 (by decide) ?_
          refine cd_icmp_ne (tgt := 92) (by omega) (by omega) hx hb dX1_isWorld_59 (by decide) (fun c59 => ?_) (fun c59 => ?_)
          · refine lv_iinc (v := nI (i + 1)) (lv' := [(2, .int (nI (i + 1))), (0, .ref (a 0)), (1, .int (nI t))]) hx hb dX1_isWorld_92 hl (k := 2) rfl (cd_inc _) (by decide) rfl (fun ls hl => ?_)
            refine lv_goto (tgt := 14) hx hb dX1_isWorld_95 (by decide) ?_
            exact ih14 _ _ (by omega) ⟨i + 1, rfl, (by omega), (cd_alls hno ⟨fun h => absurd h c28, fun _ h => absurd h c59⟩), lv_sub hl [1, 2, 0] rfl⟩
          · refine lv_aload_n hx hb dX1_isWorld_62 rfl (lv_at hl 0 rfl) ?_
            refine lv_iload_n hx hb dX1_isWorld_63 rfl (lv_at hl 1 rfl) ?_
            refine lv_aload_n hx hb dX1_isWorld_64 rfl (lv_at hl 0 rfl) ?_
            refine gM_lefts hx hb hts hown hK hP dX1_isWorld_65 ?_
            refine lv_iload_n hx hb dX1_isWorld_68 rfl (lv_at hl 2 rfl) ?_
            refine lM_lefts hx hb hK hP (by omega) dX1_isWorld_69 ?_
            refine cd_callRO ⟨hx, hb, hml, hown, hts⟩ (mM_hasN l D a d n K L R kn F T t (L i) (by omega)) (kM_has hts ⟨Nat.le_of_ble_eq_true rfl, Nat.le_of_ble_eq_true rfl⟩) rfl rfl rfl hP hK rfl hl.1 rfl (Nat.le_of_ble_eq_true rfl) dX1_isWorld_70 ⟨Nat.zero_le _, Nat.zero_le _⟩ ?_
            refine cd_ifb_ne (tgt := 92) hx hb dX1_isWorld_73 (by decide) (fun c73 => ?_) (fun c73 => ?_)
            · refine lv_iinc (v := nI (i + 1)) (lv' := [(2, .int (nI (i + 1))), (0, .ref (a 0)), (1, .int (nI t))]) hx hb dX1_isWorld_92 hl (k := 2) rfl (cd_inc _) (by decide) rfl (fun ls hl => ?_)
              refine lv_goto (tgt := 14) hx hb dX1_isWorld_95 (by decide) ?_
              exact ih14 _ _ (by omega) ⟨i + 1, rfl, (by omega), (cd_alls hno ⟨fun h => absurd h c28, fun _ _ => Or.inl c73⟩), lv_sub hl [1, 2, 0] rfl⟩
            · refine lv_aload_n hx hb dX1_isWorld_76 rfl (lv_at hl 0 rfl) ?_
              refine lv_iload_n hx hb dX1_isWorld_77 rfl (lv_at hl 1 rfl) ?_
              refine lv_aload_n hx hb dX1_isWorld_78 rfl (lv_at hl 0 rfl) ?_
              refine gM_rights hx hb hts hown hK hP dX1_isWorld_79 ?_
              refine lv_iload_n hx hb dX1_isWorld_82 rfl (lv_at hl 2 rfl) ?_
              refine lM_rights hx hb hK hP (by omega) dX1_isWorld_83 ?_
              refine cd_callRO ⟨hx, hb, hml, hown, hts⟩ (mM_hasN l D a d n K L R kn F T t (R i) (by omega)) (kM_has hts ⟨Nat.le_of_ble_eq_true rfl, Nat.le_of_ble_eq_true rfl⟩) rfl rfl rfl hP hK rfl hl.1 rfl (Nat.le_of_ble_eq_true rfl) dX1_isWorld_84 ⟨Nat.zero_le _, Nat.zero_le _⟩ ?_
              refine cd_ifb_ne (tgt := 92) hx hb dX1_isWorld_87 (by decide) (fun c87 => ?_) (fun c87 => ?_)
              · refine lv_iinc (v := nI (i + 1)) (lv' := [(2, .int (nI (i + 1))), (0, .ref (a 0)), (1, .int (nI t))]) hx hb dX1_isWorld_92 hl (k := 2) rfl (cd_inc _) (by decide) rfl (fun ls hl => ?_)
                refine lv_goto (tgt := 14) hx hb dX1_isWorld_95 (by decide) ?_
                exact ih14 _ _ (by omega) ⟨i + 1, rfl, (by omega), (cd_alls hno ⟨fun h => absurd h c28, fun _ _ => Or.inr c87⟩), lv_sub hl [1, 2, 0] rfl⟩
              · refine lv_iconst (v := nI 0) hx hb dX1_isWorld_90 (by decide) ?_
                refine cd_v (y := cd_b (cd_tw n K L R F t)) ((cd_b0 (fun h => ((h.2 i c19).2 c49 c59).elim c73 c87)).symm) ?_
                exact cd_retZ hx hb hr hlocks dX1_isWorld_91
      · refine lv_aload_n hx hb dX1_isWorld_31 rfl (lv_at hl 0 rfl) ?_
        refine gM_sorts hx hb hts hown hK hP dX1_isWorld_32 ?_
        refine lv_iload_n hx hb dX1_isWorld_35 rfl (lv_at hl 2 rfl) ?_
        refine lM_sorts hx hb hK hP (by omega) dX1_isWorld_36 ?_
        refine lv_iconst (v := nI 4) hx hb dX1_isWorld_37 (by decide) ?_
        refine cd_icmp_ne (tgt := 43) (by omega) (by omega) hx hb dX1_isWorld_38 (by decide) (fun c38 => ?_) (fun c38 => ?_)
        · refine lv_aload_n hx hb dX1_isWorld_43 rfl (lv_at hl 0 rfl) ?_
          refine lv_iload_n hx hb dX1_isWorld_44 rfl (lv_at hl 1 rfl) ?_
          refine lv_iload_n hx hb dX1_isWorld_45 rfl (lv_at hl 2 rfl) ?_
          refine cd_callRO ⟨hx, hb, hml, hown, hts⟩ (mM_hasN l D a d n K L R kn F T t i (by omega)) (kM_has hts ⟨Nat.le_of_ble_eq_true rfl, Nat.le_of_ble_eq_true rfl⟩) rfl rfl rfl hP hK rfl hl.1 rfl (Nat.le_of_ble_eq_true rfl) dX1_isWorld_46 ⟨Nat.zero_le _, Nat.zero_le _⟩ ?_
          refine cd_ifb_eq (tgt := 92) hx hb dX1_isWorld_49 (by decide) (fun c49 => ?_) (fun c49 => ?_)
          · refine lv_iinc (v := nI (i + 1)) (lv' := [(2, .int (nI (i + 1))), (0, .ref (a 0)), (1, .int (nI t))]) hx hb dX1_isWorld_92 hl (k := 2) rfl (cd_inc _) (by decide) rfl (fun ls hl => ?_)
            refine lv_goto (tgt := 14) hx hb dX1_isWorld_95 (by decide) ?_
            exact ih14 _ _ (by omega) ⟨i + 1, rfl, (by omega), (cd_alls hno ⟨fun _ => c38, fun h => absurd h c49⟩), lv_sub hl [1, 2, 0] rfl⟩
          · refine lv_aload_n hx hb dX1_isWorld_52 rfl (lv_at hl 0 rfl) ?_
            refine gM_sorts hx hb hts hown hK hP dX1_isWorld_53 ?_
            refine lv_iload_n hx hb dX1_isWorld_56 rfl (lv_at hl 2 rfl) ?_
            refine lM_sorts hx hb hK hP (by omega) dX1_isWorld_57 ?_
            refine lv_iconst (v := nI 1) hx hb dX1_isWorld_58 (by decide) ?_
            refine cd_icmp_ne (tgt := 92) (by omega) (by omega) hx hb dX1_isWorld_59 (by decide) (fun c59 => ?_) (fun c59 => ?_)
            · refine lv_iinc (v := nI (i + 1)) (lv' := [(2, .int (nI (i + 1))), (0, .ref (a 0)), (1, .int (nI t))]) hx hb dX1_isWorld_92 hl (k := 2) rfl (cd_inc _) (by decide) rfl (fun ls hl => ?_)
              refine lv_goto (tgt := 14) hx hb dX1_isWorld_95 (by decide) ?_
              exact ih14 _ _ (by omega) ⟨i + 1, rfl, (by omega), (cd_alls hno ⟨fun _ => c38, fun _ h => absurd h c59⟩), lv_sub hl [1, 2, 0] rfl⟩
            · refine lv_aload_n hx hb dX1_isWorld_62 rfl (lv_at hl 0 rfl) ?_
              refine lv_iload_n hx hb dX1_isWorld_63 rfl (lv_at hl 1 rfl) ?_
              refine lv_aload_n hx hb dX1_isWorld_64 rfl (lv_at hl 0 rfl) ?_
              refine gM_lefts hx hb hts hown hK hP dX1_isWorld_65 ?_
              refine lv_iload_n hx hb dX1_isWorld_68 rfl (lv_at hl 2 rfl) ?_
              refine lM_lefts hx hb hK hP (by omega) dX1_isWorld_69 ?_
              refine cd_callRO ⟨hx, hb, hml, hown, hts⟩ (mM_hasN l D a d n K L R kn F T t (L i) (by omega)) (kM_has hts ⟨Nat.le_of_ble_eq_true rfl, Nat.le_of_ble_eq_true rfl⟩) rfl rfl rfl hP hK rfl hl.1 rfl (Nat.le_of_ble_eq_true rfl) dX1_isWorld_70 ⟨Nat.zero_le _, Nat.zero_le _⟩ ?_
              refine cd_ifb_ne (tgt := 92) hx hb dX1_isWorld_73 (by decide) (fun c73 => ?_) (fun c73 => ?_)
              · refine lv_iinc (v := nI (i + 1)) (lv' := [(2, .int (nI (i + 1))), (0, .ref (a 0)), (1, .int (nI t))]) hx hb dX1_isWorld_92 hl (k := 2) rfl (cd_inc _) (by decide) rfl (fun ls hl => ?_)
                refine lv_goto (tgt := 14) hx hb dX1_isWorld_95 (by decide) ?_
                exact ih14 _ _ (by omega) ⟨i + 1, rfl, (by omega), (cd_alls hno ⟨fun _ => c38, fun _ _ => Or.inl c73⟩), lv_sub hl [1, 2, 0] rfl⟩
              · refine lv_aload_n hx hb dX1_isWorld_76 rfl (lv_at hl 0 rfl) ?_
                refine lv_iload_n hx hb dX1_isWorld_77 rfl (lv_at hl 1 rfl) ?_
                refine lv_aload_n hx hb dX1_isWorld_78 rfl (lv_at hl 0 rfl) ?_
                refine gM_rights hx hb hts hown hK hP dX1_isWorld_79 ?_
                refine lv_iload_n hx hb dX1_isWorld_82 rfl (lv_at hl 2 rfl) ?_
                refine lM_rights hx hb hK hP (by omega) dX1_isWorld_83 ?_
                refine cd_callRO ⟨hx, hb, hml, hown, hts⟩ (mM_hasN l D a d n K L R kn F T t (R i) (by omega)) (kM_has hts ⟨Nat.le_of_ble_eq_true rfl, Nat.le_of_ble_eq_true rfl⟩) rfl rfl rfl hP hK rfl hl.1 rfl (Nat.le_of_ble_eq_true rfl) dX1_isWorld_84 ⟨Nat.zero_le _, Nat.zero_le _⟩ ?_
                refine cd_ifb_ne (tgt := 92) hx hb dX1_isWorld_87 (by decide) (fun c87 => ?_) (fun c87 => ?_)
                · refine lv_iinc (v := nI (i + 1)) (lv' := [(2, .int (nI (i + 1))), (0, .ref (a 0)), (1, .int (nI t))]) hx hb dX1_isWorld_92 hl (k := 2) rfl (cd_inc _) (by decide) rfl (fun ls hl => ?_)
                  refine lv_goto (tgt := 14) hx hb dX1_isWorld_95 (by decide) ?_
                  exact ih14 _ _ (by omega) ⟨i + 1, rfl, (by omega), (cd_alls hno ⟨fun _ => c38, fun _ _ => Or.inr c87⟩), lv_sub hl [1, 2, 0] rfl⟩
                · refine lv_iconst (v := nI 0) hx hb dX1_isWorld_90 (by decide) ?_
                  refine cd_v (y := cd_b (cd_tw n K L R F t)) ((cd_b0 (fun h => ((h.2 i c19).2 c49 c59).elim c73 c87)).symm) ?_
                  exact cd_retZ hx hb hr hlocks dX1_isWorld_91
        · refine lv_iconst (v := nI 0) hx hb dX1_isWorld_41 (by decide) ?_
          refine cd_v (y := cd_b (cd_tw n K L R F t)) ((cd_b0 (fun h => (h.2 i c19).1 c28 c38)).symm) ?_
          exact cd_retZ hx hb hr hlocks dX1_isWorld_42
  · refine lv_iconst (v := nI 0) hx hb dX1_isWorld_10 (by decide) ?_
    refine cd_v (y := cd_b (cd_tw n K L R F t)) ((cd_b0 (fun h => c7 h.1)).symm) ?_
    exact cd_retZ hx hb hr hlocks dX1_isWorld_11
theorem kM_isWorld {R0 : Room} {s : State} {args : Array Value} (hts : ∀ w ∈ lw_all, w.before args s = true) (h : (cd_rm 1).frames + 1 ≤ R0.frames ∧ 8 + (3 + 11) + (cd_rm 1).locals ≤ R0.locals) : CallW R0 s args RX1 RX1 69 yX1_isWorld cX1_isWorld 3 (some .boolean) (ws_ yX1_isWorld cX1_isWorld 3 (some .boolean)) (cd_rm 1) 0 0 1 := cwV 1 hts (lw_V q287 q289 qs23 q26 q290) rfl rfl rfl (by decide +kernel) h
set_option maxHeartbeats 4000000 in
set_option maxRecDepth 100000 in
/-- saturated(set) -/
theorem mM_saturated (l : Launch) (D : va_G) (a : Nat → Nat) (d : Nat → ClassId) (n : Nat) (K : Nat → Nat) (L : Nat → Nat) (R : Nat → Nat) (kn : Prop) (F : Nat → Nat) (T : Nat → Prop) (x : Int32) (hwf : cd_wf n K L R) (hkf : kn → ∀ Z, Z < 2 ^ n → F Z = cd_cl n K L R Z) : cd_RW (S := Prop × (Nat → Nat)) l yX1_saturated (ws_ yX1_saturated cX1_saturated 3 (some .int)) (cd_rm 5) D (cd_tM d) (cd_wM a d n K L R kn F T) [.ref (a 0), .int (x)] (fun r u => (r = cd_b (cd_W n K L R (cd_mo x n))) ∧ (u.1 → ∀ Z, Z < 2 ^ n → u.2 Z = cd_cl n K L R Z)) (fun u => cd_wM a d n K L R u.1 u.2 T) := by
  refine cd_enterRW (own := RX1) (by decide) rfl (Nat.le_of_ble_eq_true rfl) ?_
  intro A p e s m below meth c ls hx hb hr hlocks hml hown hts hK hP hl hD hA hS
  have hl : lv_has ls 3 [(0, .ref (a 0)), (1, .int (x))] := hl
  have hn := hwf.1
  have hp11 := cd_p11 hn
  have hp1 := cd_p1 n
  refine lv_aload_n hx hb dX1_saturated_0 rfl (lv_at hl 0 rfl) ?_
  refine lv_iload_n hx hb dX1_saturated_1 rfl (lv_at hl 1 rfl) ?_
  refine cd_callRW ⟨hx, hb, hml, hown, hts⟩ (mM_taken l D a d n K L R kn F T x hwf hkf) (kM_taken hts ⟨Nat.le_of_ble_eq_true rfl, Nat.le_of_ble_eq_true rfl⟩) rfl rfl rfl hP hK hD hS hA rfl hl.1 rfl (Nat.le_of_ble_eq_true rfl) dX1_saturated_2 ⟨Nat.zero_le _, Nat.zero_le _⟩ (fun r2 u2 H locs hu2 hP hD hS => ?_)
  obtain ⟨kn1, F1⟩ := u2
  obtain ⟨hr1, hk1, hF1⟩ := hu2
  subst hr1
  have hP : va_P D cd_cls (cd_wM a d n K L R kn1 F1 T) H := hP
  have hD : va_D A (cd_wM a d n K L R kn1 F1 T) := hD
  have hF1 : ∀ Z, Z < 2 ^ n → F1 Z = cd_cl n K L R Z := hF1
  refine lv_istore_n (lv' := [(2, .int (nI (cd_mo x n))), (0, .ref (a 0)), (1, .int (x))]) hx hb dX1_saturated_5 rfl hl (by decide) rfl (fun ls hl => ?_)
  refine lv_aload_n hx hb dX1_saturated_6 rfl (lv_at hl 1 rfl) ?_
  refine lv_iload_n hx hb dX1_saturated_7 rfl (lv_at hl 0 rfl) ?_
  refine cd_callRO ⟨hx, hb, hml, hown, hts⟩ (mM_isWorld l D a d n K L R kn1 F1 T (cd_mo x n) hwf (cd_mo2048 x hn) (by rw [hF1 (cd_mo x n) (cd_mo_lt x n)]; exact cd_cl31 hn _)) (kM_isWorld hts ⟨Nat.le_of_ble_eq_true rfl, Nat.le_of_ble_eq_true rfl⟩) rfl rfl rfl hP hK rfl hl.1 rfl (Nat.le_of_ble_eq_true rfl) dX1_saturated_8 ⟨Nat.zero_le _, Nat.zero_le _⟩ ?_
  refine cd_ifb_eq (tgt := 18) hx hb dX1_saturated_11 (by decide) (fun c11 => ?_) (fun c11 => ?_)
  · refine lv_iconst (v := nI 0) hx hb dX1_saturated_18 (by decide) ?_
    exact cd_retW (kn1, F1) hx hb hr hlocks (⟨(cd_b0 (fun h => c11 ((cd_tw_W hwf (cd_mo_lt x n) hF1 (s := cd_mo x n)).mpr h))).symm, fun _ => hF1⟩) hP hD hS dX1_saturated_19
  · refine lv_iconst (v := nI 1) hx hb dX1_saturated_14 (by decide) ?_
    refine lv_goto (tgt := 19) hx hb dX1_saturated_15 (by decide) ?_
    exact cd_retW (kn1, F1) hx hb hr hlocks (⟨(cd_b1 ((cd_tw_W hwf (cd_mo_lt x n) hF1 (s := cd_mo x n)).mp c11)).symm, fun _ => hF1⟩) hP hD hS dX1_saturated_19
set_option maxHeartbeats 4000000 in
set_option maxRecDepth 100000 in
/-- worlds() -/
theorem mM_worlds (l : Launch) (D : va_G) (a : Nat → Nat) (d : Nat → ClassId) (n : Nat) (K : Nat → Nat) (L : Nat → Nat) (R : Nat → Nat) (kn : Prop) (F : Nat → Nat) (T : Nat → Prop) (hwf : cd_wf n K L R) (hkf : kn → ∀ Z, Z < 2 ^ n → F Z = cd_cl n K L R Z) : cd_RW (S := Prop × (Nat → Nat)) l yX1_worlds (ws_ yX1_worlds cX1_worlds 3 (some .int)) (cd_rm 5) D (cd_tM d) (cd_wM a d n K L R kn F T) [.ref (a 0)] (fun r u => (r = nI (cd_ct (cd_W n K L R) (2 ^ n))) ∧ (u.1 → ∀ Z, Z < 2 ^ n → u.2 Z = cd_cl n K L R Z)) (fun u => cd_wM a d n K L R u.1 u.2 T) := by
  refine cd_enterRW (own := RX1) (by decide) rfl (Nat.le_of_ble_eq_true rfl) ?_
  intro A p e s m below meth c ls hx hb hr hlocks hml hown hts hK hP hl hD hA hS
  have hl : lv_has ls 3 [(0, .ref (a 0))] := hl
  have hn := hwf.1
  have hp11 := cd_p11 hn
  have hp1 := cd_p1 n
  refine lv_aload_n hx hb dX1_worlds_0 rfl (lv_at hl 0 rfl) ?_
  refine cd_callRV ⟨hx, hb, hml, hown, hts⟩ (mM_work l D a d n K L R kn F T hwf hkf) (kM_work hts ⟨Nat.le_of_ble_eq_true rfl, Nat.le_of_ble_eq_true rfl⟩) rfl rfl rfl hP hK hD hS hA rfl hl.1 rfl (Nat.le_of_ble_eq_true rfl) dX1_worlds_1 ⟨Nat.zero_le _, Nat.zero_le _⟩ (fun u1 H locs hu1 hP hD hS => ?_)
  obtain ⟨kn1, F1⟩ := u1
  obtain ⟨hk1, hF1⟩ := hu1
  have hP : va_P D cd_cls (cd_wM a d n K L R kn1 F1 T) H := hP
  have hD : va_D A (cd_wM a d n K L R kn1 F1 T) := hD
  have hF1 : ∀ Z, Z < 2 ^ n → F1 Z = cd_cl n K L R Z := hF1
  refine lv_iconst (v := nI 0) hx hb dX1_worlds_4 (by decide) ?_
  refine cd_v (y := nI (cd_ct (cd_W n K L R) 0)) (rfl) ?_
  refine lv_istore_n (lv' := [(1, .int (nI (cd_ct (cd_W n K L R) 0))), (0, .ref (a 0))]) hx hb dX1_worlds_5 rfl hl (by decide) rfl (fun ls hl => ?_)
  refine lv_iconst (v := nI 0) hx hb dX1_worlds_6 (by decide) ?_
  refine lv_istore_n (lv' := [(2, .int (nI 0)), (1, .int (nI (cd_ct (cd_W n K L R) 0))), (0, .ref (a 0))]) hx hb dX1_worlds_7 rfl hl (by decide) rfl (fun ls hl => ?_)
  refine cd_loopR (fun N_ ls_ => ∃ (t : Nat), N_ = 2 ^ n - t ∧ t ≤ 2 ^ n ∧ lv_has ls_ 3 [(0, .ref (a 0)), (1, .int (nI (cd_ct (cd_W n K L R) t))), (2, .int (nI t))]) ?_ _ ⟨0, rfl, (by omega), lv_sub hl [2, 1, 0] rfl⟩
  intro N8 ls hI8 ih8
  obtain ⟨t, hN8, ht, hl⟩ := hI8
  refine lv_iload_n hx hb dX1_worlds_8 rfl (lv_at hl 2 rfl) ?_
  refine lv_iconst (v := nI 1) hx hb dX1_worlds_9 (by decide) ?_
  refine lv_aload_n hx hb dX1_worlds_10 rfl (lv_at hl 0 rfl) ?_
  refine gM_size hx hb hts hown hK hP dX1_worlds_11 ?_
  refine lv_ishl hx hb dX1_worlds_14 ?_
  refine cd_v (y := nI (2 ^ n)) (cd_shl (by omega)) ?_
  refine cd_icmp_ge (tgt := 35) (by omega) (by omega) hx hb dX1_worlds_15 (by decide) (fun c15 => ?_) (fun c15 => ?_)
  · refine lv_iload_n hx hb dX1_worlds_35 rfl (lv_at hl 1 rfl) ?_
    exact cd_retW (kn1, F1) hx hb hr hlocks (⟨by rw [show t = 2 ^ n by omega], fun _ => hF1⟩) hP hD hS dX1_worlds_36
  · refine lv_aload_n hx hb dX1_worlds_18 rfl (lv_at hl 0 rfl) ?_
    refine lv_iload_n hx hb dX1_worlds_19 rfl (lv_at hl 2 rfl) ?_
    refine cd_callRO ⟨hx, hb, hml, hown, hts⟩ (mM_isWorld l D a d n K L R kn1 F1 T t hwf (by omega) (by rw [hF1 t (by omega)]; exact cd_cl31 hn _)) (kM_isWorld hts ⟨Nat.le_of_ble_eq_true rfl, Nat.le_of_ble_eq_true rfl⟩) rfl rfl rfl hP hK rfl hl.1 rfl (Nat.le_of_ble_eq_true rfl) dX1_worlds_20 ⟨Nat.zero_le _, Nat.zero_le _⟩ ?_
    refine cd_ifb_eq (tgt := 29) hx hb dX1_worlds_23 (by decide) (fun c23 => ?_) (fun c23 => ?_)
    · rw [← cd_ct_0 (P := cd_W n K L R) (n := t) (fun h => c23 ((cd_tw_W hwf (by omega) hF1 (s := t)).mpr h))] at hl
      refine lv_iinc (v := nI (t + 1)) (lv' := [(2, .int (nI (t + 1))), (0, .ref (a 0)), (1, .int (nI (cd_ct (cd_W n K L R) (t + 1))))]) hx hb dX1_worlds_29 hl (k := 2) rfl (cd_inc _) (by decide) rfl (fun ls hl => ?_)
      refine lv_goto (tgt := 8) hx hb dX1_worlds_32 (by decide) ?_
      exact ih8 _ _ (by omega) ⟨t + 1, rfl, (by omega), lv_sub hl [1, 2, 0] rfl⟩
    · refine lv_iinc (v := nI (cd_ct (cd_W n K L R) t + 1)) (lv' := [(1, .int (nI (cd_ct (cd_W n K L R) t + 1))), (0, .ref (a 0)), (2, .int (nI t))]) hx hb dX1_worlds_26 hl (k := 1) rfl (cd_inc _) (by decide) rfl (fun ls hl => ?_)
      rw [← cd_ct_1 (P := cd_W n K L R) ((cd_tw_W hwf (by omega) hF1 (s := t)).mp c23)] at hl
      refine lv_iinc (v := nI (t + 1)) (lv' := [(2, .int (nI (t + 1))), (1, .int (nI (cd_ct (cd_W n K L R) (t + 1)))), (0, .ref (a 0))]) hx hb dX1_worlds_29 hl (k := 2) rfl (cd_inc _) (by decide) rfl (fun ls hl => ?_)
      refine lv_goto (tgt := 8) hx hb dX1_worlds_32 (by decide) ?_
      exact ih8 _ _ (by omega) ⟨t + 1, rfl, (by omega), lv_sub hl [2, 1, 0] rfl⟩
set_option maxHeartbeats 4000000 in
set_option maxRecDepth 100000 in
/-- against(set, c) -/
theorem mM_against (l : Launch) (D : va_G) (a : Nat → Nat) (d : Nat → ClassId) (n : Nat) (K : Nat → Nat) (L : Nat → Nat) (R : Nat → Nat) (kn : Prop) (F : Nat → Nat) (T : Nat → Prop) (x y : Int32) (hwf : cd_wf n K L R) (hkf : kn → ∀ Z, Z < 2 ^ n → F Z = cd_cl n K L R Z) : cd_RW (S := Prop × (Nat → Nat)) l yX1_against (ws_ yX1_against cX1_against 5 (some .int)) (cd_rm 5) D (cd_tM d) (cd_wM a d n K L R kn F T) [.ref (a 0), .int (x), .int (y)] (fun r u => (cd_gd n y (fun j r => cd_ag n K L R (cd_mo x n) j r) r) ∧ (u.1 → ∀ Z, Z < 2 ^ n → u.2 Z = cd_cl n K L R Z)) (fun u => cd_wM a d n K L R u.1 u.2 T) := by
  refine cd_enterRW (own := RX1) (by decide) rfl (Nat.le_of_ble_eq_true rfl) ?_
  intro A p e s m below meth c ls hx hb hr hlocks hml hown hts hK hP hl hD hA hS
  have hl : lv_has ls 5 [(0, .ref (a 0)), (1, .int (x)), (2, .int (y))] := hl
  have hn := hwf.1
  have hp11 := cd_p11 hn
  have hp1 := cd_p1 n
  refine lv_aload_n hx hb dX1_against_0 rfl (lv_at hl 0 rfl) ?_
  refine lv_iload_n hx hb dX1_against_1 rfl (lv_at hl 2 rfl) ?_
  refine cd_callRO ⟨hx, hb, hml, hown, hts⟩ (mM_is l D a d n K L R kn F T y) (kM_is hts ⟨Nat.le_of_ble_eq_true rfl, Nat.le_of_ble_eq_true rfl⟩) rfl rfl rfl hP hK rfl hl.1 rfl (Nat.le_of_ble_eq_true rfl) dX1_against_2 ⟨Nat.zero_le _, Nat.zero_le _⟩ ?_
  refine cd_ifb_ne (tgt := 10) hx hb dX1_against_5 (by decide) (fun c5 => ?_) (fun c5 => ?_)
  · obtain ⟨j, hj, rfl⟩ := cd_ix hn c5
    refine lv_aload_n hx hb dX1_against_10 rfl (lv_at hl 0 rfl) ?_
    refine lv_iload_n hx hb dX1_against_11 rfl (lv_at hl 1 rfl) ?_
    refine cd_callRW ⟨hx, hb, hml, hown, hts⟩ (mM_taken l D a d n K L R kn F T x hwf hkf) (kM_taken hts ⟨Nat.le_of_ble_eq_true rfl, Nat.le_of_ble_eq_true rfl⟩) rfl rfl rfl hP hK hD hS hA rfl hl.1 rfl (Nat.le_of_ble_eq_true rfl) dX1_against_12 ⟨Nat.zero_le _, Nat.zero_le _⟩ (fun r12 u12 H locs hu12 hP hD hS => ?_)
    obtain ⟨kn1, F1⟩ := u12
    obtain ⟨hr1, hk1, hF1⟩ := hu12
    subst hr1
    have hP : va_P D cd_cls (cd_wM a d n K L R kn1 F1 T) H := hP
    have hD : va_D A (cd_wM a d n K L R kn1 F1 T) := hD
    have hF1 : ∀ Z, Z < 2 ^ n → F1 Z = cd_cl n K L R Z := hF1
    refine lv_istore_n (lv' := [(3, .int (nI (cd_mo x n))), (0, .ref (a 0)), (1, .int (x)), (2, .int (nI j))]) hx hb dX1_against_15 rfl hl (by decide) rfl (fun ls hl => ?_)
    have hmo := cd_mo_lt x n
    refine lv_iload_n hx hb dX1_against_16 rfl (lv_at hl 0 rfl) ?_
    refine lv_istore (lv' := [(4, .int (nI (cd_mo x n))), (3, .int (nI (cd_mo x n))), (0, .ref (a 0)), (1, .int (x)), (2, .int (nI j))]) hx hb dX1_against_17 hl (by decide) rfl (fun ls hl => ?_)
    refine cd_loopR (fun N_ ls_ => ∃ (w : Nat), N_ = 2 ^ n - w ∧ cd_mo x n ≤ w ∧ w ≤ 2 ^ n ∧ (∀ v, v < w → ¬ (cd_W n K L R v ∧ cd_sub (cd_mo x n) v ∧ ¬ v.testBit j = true)) ∧ lv_has ls_ 5 [(0, .ref (a 0)), (1, .int (x)), (2, .int (nI j)), (3, .int (nI (cd_mo x n))), (4, .int (nI w))]) ?_ _ ⟨cd_mo x n, rfl, Nat.le_refl _, (by omega), (fun v hv h => absurd (cd_sub_le h.2.1) (Nat.not_le.mpr hv)), lv_sub hl [2, 3, 4, 1, 0] rfl⟩
    intro N19 ls hI19 ih19
    obtain ⟨w, hN19, hw1, hw2, hno, hl⟩ := hI19
    refine lv_iload hx hb dX1_against_19 (lv_at hl 4 rfl) ?_
    refine lv_iconst (v := nI 1) hx hb dX1_against_21 (by decide) ?_
    refine lv_aload_n hx hb dX1_against_22 rfl (lv_at hl 0 rfl) ?_
    refine gM_size hx hb hts hown hK hP dX1_against_23 ?_
    refine lv_ishl hx hb dX1_against_26 ?_
    refine cd_v (y := nI (2 ^ n)) (cd_shl (by omega)) ?_
    refine cd_icmp_ge (tgt := 67) (by omega) (by omega) hx hb dX1_against_27 (by decide) (fun c27 => ?_) (fun c27 => ?_)
    · refine lv_bipush (v := (-4)) hx hb dX1_against_67 (by decide) ?_
      exact cd_retW (kn1, F1) hx hb hr hlocks (⟨cd_gd_in hj (Or.inl ⟨fun v a b c => Classical.byContradiction (fun z => hno v (by omega) ⟨b, c, z⟩), rfl⟩), fun _ => hF1⟩) hP hD hS dX1_against_69
    · refine lv_iload_n hx hb dX1_against_30 rfl (lv_at hl 3 rfl) ?_
      refine lv_iload hx hb dX1_against_31 (lv_at hl 4 rfl) ?_
      refine lv_iconst (v := (-1)) hx hb dX1_against_33 (by decide) ?_
      refine lv_ixor hx hb dX1_against_34 ?_
      refine lv_iand hx hb dX1_against_35 ?_
      refine cd_v (y := nI (cd_df (cd_mo x n) w)) (cd_andn _ _) ?_
      refine cd_if_ne (tgt := 61) (cd_df31 (cd_mo2048 x hn)) hx hb dX1_against_36 (by decide) (fun c36 => ?_) (fun c36 => ?_)
      · refine lv_iinc (v := nI (w + 1)) (lv' := [(4, .int (nI (w + 1))), (0, .ref (a 0)), (1, .int (x)), (2, .int (nI j)), (3, .int (nI (cd_mo x n)))]) hx hb dX1_against_61 hl (k := 4) rfl (cd_inc _) (by decide) rfl (fun ls hl => ?_)
        refine lv_goto (tgt := 19) hx hb dX1_against_64 (by decide) ?_
        exact ih19 _ _ (by omega) ⟨w + 1, rfl, (by omega), (by omega), (cd_alls hno (fun h => c36 (cd_df0.mpr h.2.1))), lv_sub hl [1, 2, 3, 4, 0] rfl⟩
      · refine lv_aload_n hx hb dX1_against_39 rfl (lv_at hl 0 rfl) ?_
        refine lv_iload hx hb dX1_against_40 (lv_at hl 4 rfl) ?_
        refine lv_iload_n hx hb dX1_against_42 rfl (lv_at hl 2 rfl) ?_
        refine cd_callRO ⟨hx, hb, hml, hown, hts⟩ (mM_hasN l D a d n K L R kn1 F1 T w j (by omega)) (kM_has hts ⟨Nat.le_of_ble_eq_true rfl, Nat.le_of_ble_eq_true rfl⟩) rfl rfl rfl hP hK rfl hl.1 rfl (Nat.le_of_ble_eq_true rfl) dX1_against_43 ⟨Nat.zero_le _, Nat.zero_le _⟩ ?_
        refine cd_ifb_ne (tgt := 61) hx hb dX1_against_46 (by decide) (fun c46 => ?_) (fun c46 => ?_)
        · refine lv_iinc (v := nI (w + 1)) (lv' := [(4, .int (nI (w + 1))), (0, .ref (a 0)), (1, .int (x)), (2, .int (nI j)), (3, .int (nI (cd_mo x n)))]) hx hb dX1_against_61 hl (k := 4) rfl (cd_inc _) (by decide) rfl (fun ls hl => ?_)
          refine lv_goto (tgt := 19) hx hb dX1_against_64 (by decide) ?_
          exact ih19 _ _ (by omega) ⟨w + 1, rfl, (by omega), (by omega), (cd_alls hno (fun h => h.2.2 c46)), lv_sub hl [1, 2, 3, 4, 0] rfl⟩
        · refine lv_aload_n hx hb dX1_against_49 rfl (lv_at hl 0 rfl) ?_
          refine lv_iload hx hb dX1_against_50 (lv_at hl 4 rfl) ?_
          refine cd_callRO ⟨hx, hb, hml, hown, hts⟩ (mM_isWorld l D a d n K L R kn1 F1 T w hwf (by omega) (by rw [hF1 w (by omega)]; exact cd_cl31 hn _)) (kM_isWorld hts ⟨Nat.le_of_ble_eq_true rfl, Nat.le_of_ble_eq_true rfl⟩) rfl rfl rfl hP hK rfl hl.1 rfl (Nat.le_of_ble_eq_true rfl) dX1_against_52 ⟨Nat.zero_le _, Nat.zero_le _⟩ ?_
          refine cd_ifb_eq (tgt := 61) hx hb dX1_against_55 (by decide) (fun c55 => ?_) (fun c55 => ?_)
          · refine lv_iinc (v := nI (w + 1)) (lv' := [(4, .int (nI (w + 1))), (0, .ref (a 0)), (1, .int (x)), (2, .int (nI j)), (3, .int (nI (cd_mo x n)))]) hx hb dX1_against_61 hl (k := 4) rfl (cd_inc _) (by decide) rfl (fun ls hl => ?_)
            refine lv_goto (tgt := 19) hx hb dX1_against_64 (by decide) ?_
            exact ih19 _ _ (by omega) ⟨w + 1, rfl, (by omega), (by omega), (cd_alls hno (fun h => c55 ((cd_tw_W hwf (by omega) hF1 (s := w)).mpr h.1))), lv_sub hl [1, 2, 3, 4, 0] rfl⟩
          · refine lv_iload hx hb dX1_against_58 (lv_at hl 4 rfl) ?_
            exact cd_retW (kn1, F1) hx hb hr hlocks (⟨cd_gd_in hj (Or.inr ⟨w, rfl, c27, (cd_tw_W hwf (by omega) hF1 (s := w)).mp c55, cd_df0.mp c36, c46, fun v a b c => Classical.byContradiction (fun z => hno v a ⟨b, c, z⟩)⟩), fun _ => hF1⟩) hP hD hS dX1_against_60
  · refine lv_iconst (v := (-1)) hx hb dX1_against_8 (by decide) ?_
    exact cd_retW (kn, F) hx hb hr hlocks (⟨cd_gd_bad (Classical.not_not.mp c5), hkf⟩) hP hD hS dX1_against_9
set_option maxHeartbeats 4000000 in
set_option maxRecDepth 100000 in
/-- closedSets() -/
theorem mM_closedSets (l : Launch) (D : va_G) (a : Nat → Nat) (d : Nat → ClassId) (n : Nat) (K : Nat → Nat) (L : Nat → Nat) (R : Nat → Nat) (kn : Prop) (F : Nat → Nat) (T : Nat → Prop) (hwf : cd_wf n K L R) (hkf : kn → ∀ Z, Z < 2 ^ n → F Z = cd_cl n K L R Z) : cd_RW (S := Prop × (Nat → Nat)) l yX1_closedSets (ws_ yX1_closedSets cX1_closedSets 3 (some .int)) (cd_rm 5) D (cd_tM d) (cd_wM a d n K L R kn F T) [.ref (a 0)] (fun r u => (r = nI (cd_ct (fun v => cd_cl n K L R v = v) (2 ^ n))) ∧ (u.1 → ∀ Z, Z < 2 ^ n → u.2 Z = cd_cl n K L R Z)) (fun u => cd_wM a d n K L R u.1 u.2 T) := by
  refine cd_enterRW (own := RX1) (by decide) rfl (Nat.le_of_ble_eq_true rfl) ?_
  intro A p e s m below meth c ls hx hb hr hlocks hml hown hts hK hP hl hD hA hS
  have hl : lv_has ls 3 [(0, .ref (a 0))] := hl
  have hn := hwf.1
  have hp11 := cd_p11 hn
  have hp1 := cd_p1 n
  refine lv_aload_n hx hb dX1_closedSets_0 rfl (lv_at hl 0 rfl) ?_
  refine cd_callRV ⟨hx, hb, hml, hown, hts⟩ (mM_work l D a d n K L R kn F T hwf hkf) (kM_work hts ⟨Nat.le_of_ble_eq_true rfl, Nat.le_of_ble_eq_true rfl⟩) rfl rfl rfl hP hK hD hS hA rfl hl.1 rfl (Nat.le_of_ble_eq_true rfl) dX1_closedSets_1 ⟨Nat.zero_le _, Nat.zero_le _⟩ (fun u1 H locs hu1 hP hD hS => ?_)
  obtain ⟨kn1, F1⟩ := u1
  obtain ⟨hk1, hF1⟩ := hu1
  have hP : va_P D cd_cls (cd_wM a d n K L R kn1 F1 T) H := hP
  have hD : va_D A (cd_wM a d n K L R kn1 F1 T) := hD
  have hF1 : ∀ Z, Z < 2 ^ n → F1 Z = cd_cl n K L R Z := hF1
  refine lv_iconst (v := nI 0) hx hb dX1_closedSets_4 (by decide) ?_
  refine cd_v (y := nI (cd_ct (fun v => cd_cl n K L R v = v) 0)) (rfl) ?_
  refine lv_istore_n (lv' := [(1, .int (nI (cd_ct (fun v => cd_cl n K L R v = v) 0))), (0, .ref (a 0))]) hx hb dX1_closedSets_5 rfl hl (by decide) rfl (fun ls hl => ?_)
  refine lv_iconst (v := nI 0) hx hb dX1_closedSets_6 (by decide) ?_
  refine lv_istore_n (lv' := [(2, .int (nI 0)), (1, .int (nI (cd_ct (fun v => cd_cl n K L R v = v) 0))), (0, .ref (a 0))]) hx hb dX1_closedSets_7 rfl hl (by decide) rfl (fun ls hl => ?_)
  refine cd_loopR (fun N_ ls_ => ∃ (t : Nat), N_ = 2 ^ n - t ∧ t ≤ 2 ^ n ∧ lv_has ls_ 3 [(0, .ref (a 0)), (1, .int (nI (cd_ct (fun v => cd_cl n K L R v = v) t))), (2, .int (nI t))]) ?_ _ ⟨0, rfl, (by omega), lv_sub hl [2, 1, 0] rfl⟩
  intro N8 ls hI8 ih8
  obtain ⟨t, hN8, ht, hl⟩ := hI8
  refine lv_iload_n hx hb dX1_closedSets_8 rfl (lv_at hl 2 rfl) ?_
  refine lv_iconst (v := nI 1) hx hb dX1_closedSets_9 (by decide) ?_
  refine lv_aload_n hx hb dX1_closedSets_10 rfl (lv_at hl 0 rfl) ?_
  refine gM_size hx hb hts hown hK hP dX1_closedSets_11 ?_
  refine lv_ishl hx hb dX1_closedSets_14 ?_
  refine cd_v (y := nI (2 ^ n)) (cd_shl (by omega)) ?_
  refine cd_icmp_ge (tgt := 37) (by omega) (by omega) hx hb dX1_closedSets_15 (by decide) (fun c15 => ?_) (fun c15 => ?_)
  · refine lv_iload_n hx hb dX1_closedSets_37 rfl (lv_at hl 1 rfl) ?_
    exact cd_retW (kn1, F1) hx hb hr hlocks (⟨by rw [show t = 2 ^ n by omega], fun _ => hF1⟩) hP hD hS dX1_closedSets_38
  · refine lv_aload_n hx hb dX1_closedSets_18 rfl (lv_at hl 0 rfl) ?_
    refine gM_follow hx hb hts hown hK hP dX1_closedSets_19 ?_
    refine lv_iload_n hx hb dX1_closedSets_22 rfl (lv_at hl 2 rfl) ?_
    refine lM_follow hx hb hK hP (by omega) dX1_closedSets_23 ?_
    refine cd_v (y := nI (cd_cl n K L R t)) (congrArg nI (hF1 _ (by omega))) ?_
    refine lv_iload_n hx hb dX1_closedSets_24 rfl (lv_at hl 2 rfl) ?_
    refine cd_icmp_ne (tgt := 31) (cd_cl31 hn t) (by omega) hx hb dX1_closedSets_25 (by decide) (fun c25 => ?_) (fun c25 => ?_)
    · rw [← cd_ct_0 (P := fun v => cd_cl n K L R v = v) (n := t) c25] at hl
      refine lv_iinc (v := nI (t + 1)) (lv' := [(2, .int (nI (t + 1))), (0, .ref (a 0)), (1, .int (nI (cd_ct (fun v => cd_cl n K L R v = v) (t + 1))))]) hx hb dX1_closedSets_31 hl (k := 2) rfl (cd_inc _) (by decide) rfl (fun ls hl => ?_)
      refine lv_goto (tgt := 8) hx hb dX1_closedSets_34 (by decide) ?_
      exact ih8 _ _ (by omega) ⟨t + 1, rfl, (by omega), lv_sub hl [1, 2, 0] rfl⟩
    · refine lv_iinc (v := nI (cd_ct (fun v => cd_cl n K L R v = v) t + 1)) (lv' := [(1, .int (nI (cd_ct (fun v => cd_cl n K L R v = v) t + 1))), (0, .ref (a 0)), (2, .int (nI t))]) hx hb dX1_closedSets_28 hl (k := 1) rfl (cd_inc _) (by decide) rfl (fun ls hl => ?_)
      rw [← cd_ct_1 (P := fun v => cd_cl n K L R v = v) (n := t) c25] at hl
      refine lv_iinc (v := nI (t + 1)) (lv' := [(2, .int (nI (t + 1))), (1, .int (nI (cd_ct (fun v => cd_cl n K L R v = v) (t + 1)))), (0, .ref (a 0))]) hx hb dX1_closedSets_31 hl (k := 2) rfl (cd_inc _) (by decide) rfl (fun ls hl => ?_)
      refine lv_goto (tgt := 8) hx hb dX1_closedSets_34 (by decide) ?_
      exact ih8 _ _ (by omega) ⟨t + 1, rfl, (by omega), lv_sub hl [2, 1, 0] rfl⟩
end
section
/-! the two constructors -/
def cd_vec {α : Type} (x0 x1 x2 x3 x4 x5 : α) : Nat → α := fun k => match k with
  | 0 => x0
  | 1 => x1
  | 2 => x2
  | 3 => x3
  | 4 => x4
  | _ => x5
abbrev cd_oD (h0 : Nat) : va_W := [(h0, .inr (0, [.int (nI 0), .null, .null, .null, .int (nI 0), .int (nI 0), .null, .int (nI 0), .null]))]
set_option maxHeartbeats 4000000 in
set_option maxRecDepth 100000 in
/-- the constructor: five arrays come -/
theorem mD_init (l : Launch) (D : va_G) (h0 sz : Nat) : Met l yX0_init (ws_ yX0_init cX0_init 1 none) { frames := 1, cells := 5, slots := 4129, locals := 12 } (va_Pc [.ref h0] (fun U => U.heap.size = sz ∧ va_P D cd_cls (cd_oD h0) U.heap ∧ va_K D cd_cls [] U ∧ va_D (fun _ => True) (cd_oD h0))) (va_Qv (fun u : (Nat → Nat) × (Nat → ClassId) => u.1 0 = h0) (fun u t => va_P D cd_cls (cd_wD u.1 u.2 0 (fun _ => 0) (fun _ => 0) (fun _ => 0) False 0 (fun _ => 0) 0 (fun _ => 0)) t.heap ∧ va_K D cd_cls (cd_tD u.2) t ∧ va_D (va_A (cd_oD h0) sz) (cd_wD u.1 u.2 0 (fun _ => 0) (fun _ => 0) (fun _ => 0) False 0 (fun _ => 0) 0 (fun _ => 0))) (va_A (cd_oD h0) sz)) 5 4129 (va_A (cd_oD h0) sz) := by
  refine Met.ofW (cc := cX0_init) (maxL := 1) (ret := none) (by decide) rfl ?_
  intro p e s m args below meth c s₁ B hml hv
  obtain ⟨rfl, hsz, hP, hK, hD0⟩ := hv
  have hx := B.exec
  have hb := B.bytes
  have hr := B.returns
  have hts := atoms_spec (ws := ws_ yX0_init cX0_init 1 none) B.pre
  have hts : ∀ w ∈ lw_all, w.before _ s = true := fun w h => hts w (List.mem_cons_of_mem _ h)
  have hown : s.vm.findClass RX0 = some m.cls := findClass_of_methodNamed B.named
  have hlocks := B.notSynchronized
  have hin : meth.name = "<init>" := (name_of_methodNamed B.named B.method).1
  subst hsz
  have hD := hD0.self (sz := s.heap.size)
  generalize hAe : va_A (cd_oD h0) s.heap.size = A at hD ⊢
  have hA : ∀ q : Nat, s.heap.size ≤ q → A q := fun q h => by rw [← hAe]; exact Or.inr h
  have hS : va_S A s.heap s.heap [] := va_S.rf
  have hl := lv_entry ([.ref h0]) (n := 1) (Nat.le_of_ble_eq_true rfl)
  rw [lg_entry_eq]
  generalize (lg_sl ([.ref h0]) ++ List.replicate (1 - (lg_sl ([.ref h0])).length) Slot.unset).toArray = ls at hl ⊢
  have hl : lv_has ls 1 [(0, .ref h0)] := hl
  refine lv_aload_n hx hb dX0_init_0 rfl (lv_at hl 0 rfl) ?_
  refine W.objInit hx hb hown (hts _ q32) (hts _ q33) (hts _ q34) rfl (by rw [hml]; exact hl.1) rfl dX0_init_1 (Nat.le_of_ble_eq_true rfl) (Nat.le_of_ble_eq_true rfl) ?_
  refine W.eq (g2 := F0 m 4 ls []) rfl ?_
  refine lv_aload_n hx hb dX0_init_4 rfl (lv_at hl 0 rfl) ?_
  refine lv_bipush (v := nI 11) hx hb dX0_init_5 (by decide) ?_
  refine va_newa (atype := .byte) (a0 := (11, .inl (fun _ => nI 0))) hx hb (hts _ q63) (ty := .byte) rfl hK hP hD hS hA (fun _ => rfl) (by decide) (N' := 11) (by decide) (by decide) (by decide) (by decide) dX0_init_7 (fun q1 c1 H hK hP hD hS => ?_)
  have hK : va_K D cd_cls [(c1, .byte)] s := hK
  have hP : va_P D cd_cls [(h0, .inr (0, [.int (nI 0), .null, .null, .null, .int (nI 0), .int (nI 0), .null, .int (nI 0), .null])), (q1, .inl (c1, 11, .inl (fun _ => nI 0)))] H := hP
  have hD : va_D A [(h0, .inr (0, [.int (nI 0), .null, .null, .null, .int (nI 0), .int (nI 0), .null, .int (nI 0), .null])), (q1, .inl (c1, 11, .inl (fun _ => nI 0)))] := hD
  refine W.widen (k := 1) (n := 11) (by omega) (by omega) ?_
  refine va_putF (D := D) (ci := 0) (v := .ref q1) (ty := .array .byte) (C := RX0) (T := TX0) (N := 9) hx hb hts in_X0 tyX0 tyX0_ok nmX0 hown hK hP hD hS 0 rfl rfl 1 (by decide) (hts _ q36) (fun _ h9 => h9) rfl hin rfl (by decide +kernel) rfl rfl (Nat.le_of_ble_eq_true rfl) dX0_init_9 (fun H locs hP hD hS => ?_)
  have hP : va_P D cd_cls [(h0, .inr (0, [.int (nI 0), .ref q1, .null, .null, .int (nI 0), .int (nI 0), .null, .int (nI 0), .null])), (q1, .inl (c1, 11, .inl (fun _ => nI 0)))] H := hP
  have hD : va_D A [(h0, .inr (0, [.int (nI 0), .ref q1, .null, .null, .int (nI 0), .int (nI 0), .null, .int (nI 0), .null])), (q1, .inl (c1, 11, .inl (fun _ => nI 0)))] := hD
  refine lv_aload_n hx hb dX0_init_12 rfl (lv_at hl 0 rfl) ?_
  refine lv_bipush (v := nI 11) hx hb dX0_init_13 (by decide) ?_
  refine va_newa (atype := .byte) (a0 := (11, .inl (fun _ => nI 0))) hx hb (hts _ q63) (ty := .byte) rfl hK hP hD hS hA (fun _ => rfl) (by decide) (N' := 11) (by decide) (by decide) (by decide) (by decide) dX0_init_15 (fun q2 c2 H hK hP hD hS => ?_)
  have hK : va_K D cd_cls [(c1, .byte), (c2, .byte)] s := hK
  have hP : va_P D cd_cls [(h0, .inr (0, [.int (nI 0), .ref q1, .null, .null, .int (nI 0), .int (nI 0), .null, .int (nI 0), .null])), (q1, .inl (c1, 11, .inl (fun _ => nI 0))), (q2, .inl (c2, 11, .inl (fun _ => nI 0)))] H := hP
  have hD : va_D A [(h0, .inr (0, [.int (nI 0), .ref q1, .null, .null, .int (nI 0), .int (nI 0), .null, .int (nI 0), .null])), (q1, .inl (c1, 11, .inl (fun _ => nI 0))), (q2, .inl (c2, 11, .inl (fun _ => nI 0)))] := hD
  refine W.widen (k := 2) (n := 22) (by omega) (by omega) ?_
  refine va_putF (D := D) (ci := 0) (v := .ref q2) (ty := .array .byte) (C := RX0) (T := TX0) (N := 9) hx hb hts in_X0 tyX0 tyX0_ok nmX0 hown hK hP hD hS 0 rfl rfl 2 (by decide) (hts _ q37) (fun _ h9 => h9) rfl hin rfl (by decide +kernel) rfl rfl (Nat.le_of_ble_eq_true rfl) dX0_init_17 (fun H locs hP hD hS => ?_)
  have hP : va_P D cd_cls [(h0, .inr (0, [.int (nI 0), .ref q1, .ref q2, .null, .int (nI 0), .int (nI 0), .null, .int (nI 0), .null])), (q1, .inl (c1, 11, .inl (fun _ => nI 0))), (q2, .inl (c2, 11, .inl (fun _ => nI 0)))] H := hP
  have hD : va_D A [(h0, .inr (0, [.int (nI 0), .ref q1, .ref q2, .null, .int (nI 0), .int (nI 0), .null, .int (nI 0), .null])), (q1, .inl (c1, 11, .inl (fun _ => nI 0))), (q2, .inl (c2, 11, .inl (fun _ => nI 0)))] := hD
  refine lv_aload_n hx hb dX0_init_20 rfl (lv_at hl 0 rfl) ?_
  refine lv_bipush (v := nI 11) hx hb dX0_init_21 (by decide) ?_
  refine va_newa (atype := .byte) (a0 := (11, .inl (fun _ => nI 0))) hx hb (hts _ q63) (ty := .byte) rfl hK hP hD hS hA (fun _ => rfl) (by decide) (N' := 11) (by decide) (by decide) (by decide) (by decide) dX0_init_23 (fun q3 c3 H hK hP hD hS => ?_)
  have hK : va_K D cd_cls [(c1, .byte), (c2, .byte), (c3, .byte)] s := hK
  have hP : va_P D cd_cls [(h0, .inr (0, [.int (nI 0), .ref q1, .ref q2, .null, .int (nI 0), .int (nI 0), .null, .int (nI 0), .null])), (q1, .inl (c1, 11, .inl (fun _ => nI 0))), (q2, .inl (c2, 11, .inl (fun _ => nI 0))), (q3, .inl (c3, 11, .inl (fun _ => nI 0)))] H := hP
  have hD : va_D A [(h0, .inr (0, [.int (nI 0), .ref q1, .ref q2, .null, .int (nI 0), .int (nI 0), .null, .int (nI 0), .null])), (q1, .inl (c1, 11, .inl (fun _ => nI 0))), (q2, .inl (c2, 11, .inl (fun _ => nI 0))), (q3, .inl (c3, 11, .inl (fun _ => nI 0)))] := hD
  refine W.widen (k := 3) (n := 33) (by omega) (by omega) ?_
  refine va_putF (D := D) (ci := 0) (v := .ref q3) (ty := .array .byte) (C := RX0) (T := TX0) (N := 9) hx hb hts in_X0 tyX0 tyX0_ok nmX0 hown hK hP hD hS 0 rfl rfl 3 (by decide) (hts _ q38) (fun _ h9 => h9) rfl hin rfl (by decide +kernel) rfl rfl (Nat.le_of_ble_eq_true rfl) dX0_init_25 (fun H locs hP hD hS => ?_)
  have hP : va_P D cd_cls [(h0, .inr (0, [.int (nI 0), .ref q1, .ref q2, .ref q3, .int (nI 0), .int (nI 0), .null, .int (nI 0), .null])), (q1, .inl (c1, 11, .inl (fun _ => nI 0))), (q2, .inl (c2, 11, .inl (fun _ => nI 0))), (q3, .inl (c3, 11, .inl (fun _ => nI 0)))] H := hP
  have hD : va_D A [(h0, .inr (0, [.int (nI 0), .ref q1, .ref q2, .ref q3, .int (nI 0), .int (nI 0), .null, .int (nI 0), .null])), (q1, .inl (c1, 11, .inl (fun _ => nI 0))), (q2, .inl (c2, 11, .inl (fun _ => nI 0))), (q3, .inl (c3, 11, .inl (fun _ => nI 0)))] := hD
  refine lv_aload_n hx hb dX0_init_28 rfl (lv_at hl 0 rfl) ?_
  refine lv_sipush (v := nI 2048) hx hb dX0_init_29 (by decide) ?_
  refine va_newa (atype := .short) (a0 := (2048, .inl (fun _ => nI 0))) hx hb (hts _ q64) (ty := .short) rfl hK hP hD hS hA (fun _ => rfl) (by decide) (N' := 2048) (by decide) (by decide) (by decide) (by decide) dX0_init_32 (fun q4 c4 H hK hP hD hS => ?_)
  have hK : va_K D cd_cls [(c1, .byte), (c2, .byte), (c3, .byte), (c4, .short)] s := hK
  have hP : va_P D cd_cls [(h0, .inr (0, [.int (nI 0), .ref q1, .ref q2, .ref q3, .int (nI 0), .int (nI 0), .null, .int (nI 0), .null])), (q1, .inl (c1, 11, .inl (fun _ => nI 0))), (q2, .inl (c2, 11, .inl (fun _ => nI 0))), (q3, .inl (c3, 11, .inl (fun _ => nI 0))), (q4, .inl (c4, 2048, .inl (fun _ => nI 0)))] H := hP
  have hD : va_D A [(h0, .inr (0, [.int (nI 0), .ref q1, .ref q2, .ref q3, .int (nI 0), .int (nI 0), .null, .int (nI 0), .null])), (q1, .inl (c1, 11, .inl (fun _ => nI 0))), (q2, .inl (c2, 11, .inl (fun _ => nI 0))), (q3, .inl (c3, 11, .inl (fun _ => nI 0))), (q4, .inl (c4, 2048, .inl (fun _ => nI 0)))] := hD
  refine W.widen (k := 4) (n := 2081) (by omega) (by omega) ?_
  refine va_putF (D := D) (ci := 0) (v := .ref q4) (ty := .array .short) (C := RX0) (T := TX0) (N := 9) hx hb hts in_X0 tyX0 tyX0_ok nmX0 hown hK hP hD hS 0 rfl rfl 6 (by decide) (hts _ q41) (fun _ h9 => h9) rfl hin rfl (by decide +kernel) rfl rfl (Nat.le_of_ble_eq_true rfl) dX0_init_34 (fun H locs hP hD hS => ?_)
  have hP : va_P D cd_cls [(h0, .inr (0, [.int (nI 0), .ref q1, .ref q2, .ref q3, .int (nI 0), .int (nI 0), .ref q4, .int (nI 0), .null])), (q1, .inl (c1, 11, .inl (fun _ => nI 0))), (q2, .inl (c2, 11, .inl (fun _ => nI 0))), (q3, .inl (c3, 11, .inl (fun _ => nI 0))), (q4, .inl (c4, 2048, .inl (fun _ => nI 0)))] H := hP
  have hD : va_D A [(h0, .inr (0, [.int (nI 0), .ref q1, .ref q2, .ref q3, .int (nI 0), .int (nI 0), .ref q4, .int (nI 0), .null])), (q1, .inl (c1, 11, .inl (fun _ => nI 0))), (q2, .inl (c2, 11, .inl (fun _ => nI 0))), (q3, .inl (c3, 11, .inl (fun _ => nI 0))), (q4, .inl (c4, 2048, .inl (fun _ => nI 0)))] := hD
  refine lv_aload_n hx hb dX0_init_37 rfl (lv_at hl 0 rfl) ?_
  refine lv_sipush (v := nI 2048) hx hb dX0_init_38 (by decide) ?_
  refine va_newa (atype := .short) (a0 := (2048, .inl (fun _ => nI 0))) hx hb (hts _ q64) (ty := .short) rfl hK hP hD hS hA (fun _ => rfl) (by decide) (N' := 2048) (by decide) (by decide) (by decide) (by decide) dX0_init_41 (fun q5 c5 H hK hP hD hS => ?_)
  have hK : va_K D cd_cls [(c1, .byte), (c2, .byte), (c3, .byte), (c4, .short), (c5, .short)] s := hK
  have hP : va_P D cd_cls [(h0, .inr (0, [.int (nI 0), .ref q1, .ref q2, .ref q3, .int (nI 0), .int (nI 0), .ref q4, .int (nI 0), .null])), (q1, .inl (c1, 11, .inl (fun _ => nI 0))), (q2, .inl (c2, 11, .inl (fun _ => nI 0))), (q3, .inl (c3, 11, .inl (fun _ => nI 0))), (q4, .inl (c4, 2048, .inl (fun _ => nI 0))), (q5, .inl (c5, 2048, .inl (fun _ => nI 0)))] H := hP
  have hD : va_D A [(h0, .inr (0, [.int (nI 0), .ref q1, .ref q2, .ref q3, .int (nI 0), .int (nI 0), .ref q4, .int (nI 0), .null])), (q1, .inl (c1, 11, .inl (fun _ => nI 0))), (q2, .inl (c2, 11, .inl (fun _ => nI 0))), (q3, .inl (c3, 11, .inl (fun _ => nI 0))), (q4, .inl (c4, 2048, .inl (fun _ => nI 0))), (q5, .inl (c5, 2048, .inl (fun _ => nI 0)))] := hD
  refine W.widen (k := 5) (n := 4129) (by omega) (by omega) ?_
  refine va_putF (D := D) (ci := 0) (v := .ref q5) (ty := .array .short) (C := RX0) (T := TX0) (N := 9) hx hb hts in_X0 tyX0 tyX0_ok nmX0 hown hK hP hD hS 0 rfl rfl 8 (by decide) (hts _ q43) (fun _ h9 => h9) rfl hin rfl (by decide +kernel) rfl rfl (Nat.le_of_ble_eq_true rfl) dX0_init_43 (fun H locs hP hD hS => ?_)
  have hP : va_P D cd_cls [(h0, .inr (0, [.int (nI 0), .ref q1, .ref q2, .ref q3, .int (nI 0), .int (nI 0), .ref q4, .int (nI 0), .ref q5])), (q1, .inl (c1, 11, .inl (fun _ => nI 0))), (q2, .inl (c2, 11, .inl (fun _ => nI 0))), (q3, .inl (c3, 11, .inl (fun _ => nI 0))), (q4, .inl (c4, 2048, .inl (fun _ => nI 0))), (q5, .inl (c5, 2048, .inl (fun _ => nI 0)))] H := hP
  have hD : va_D A [(h0, .inr (0, [.int (nI 0), .ref q1, .ref q2, .ref q3, .int (nI 0), .int (nI 0), .ref q4, .int (nI 0), .ref q5])), (q1, .inl (c1, 11, .inl (fun _ => nI 0))), (q2, .inl (c2, 11, .inl (fun _ => nI 0))), (q3, .inl (c3, 11, .inl (fun _ => nI 0))), (q4, .inl (c4, 2048, .inl (fun _ => nI 0))), (q5, .inl (c5, 2048, .inl (fun _ => nI 0)))] := hD
  refine lv_aload_n hx hb dX0_init_46 rfl (lv_at hl 0 rfl) ?_
  refine lv_iconst (v := nI 0) hx hb dX0_init_47 (by decide) ?_
  refine va_put (D := D) (ci := 0) (v := .int (nI 0)) (ty := .int) (C := RX0) (T := TX0) (N := 9) hx hb hts in_X0 tyX0 tyX0_ok nmX0 hown hK hP hD hS 0 rfl rfl 0 (by decide) (hts _ q35) (fun _ h9 => h9) rfl (by decide +kernel) rfl rfl (Nat.le_of_ble_eq_true rfl) dX0_init_48 (fun H locs hP hD hS => ?_)
  have hP : va_P D cd_cls [(h0, .inr (0, [.int (nI 0), .ref q1, .ref q2, .ref q3, .int (nI 0), .int (nI 0), .ref q4, .int (nI 0), .ref q5])), (q1, .inl (c1, 11, .inl (fun _ => nI 0))), (q2, .inl (c2, 11, .inl (fun _ => nI 0))), (q3, .inl (c3, 11, .inl (fun _ => nI 0))), (q4, .inl (c4, 2048, .inl (fun _ => nI 0))), (q5, .inl (c5, 2048, .inl (fun _ => nI 0)))] H := hP
  have hD : va_D A [(h0, .inr (0, [.int (nI 0), .ref q1, .ref q2, .ref q3, .int (nI 0), .int (nI 0), .ref q4, .int (nI 0), .ref q5])), (q1, .inl (c1, 11, .inl (fun _ => nI 0))), (q2, .inl (c2, 11, .inl (fun _ => nI 0))), (q3, .inl (c3, 11, .inl (fun _ => nI 0))), (q4, .inl (c4, 2048, .inl (fun _ => nI 0))), (q5, .inl (c5, 2048, .inl (fun _ => nI 0)))] := hD
  have ew : cd_wD (cd_vec h0 q1 q2 q3 q4 q5) (cd_vec c1 c1 c2 c3 c4 c5) 0 (fun _ => 0) (fun _ => 0) (fun _ => 0) False 0 (fun _ => 0) 0 (fun _ => 0) = [(h0, .inr (0, [.int (nI 0), .ref q1, .ref q2, .ref q3, .int (nI 0), .int (nI 0), .ref q4, .int (nI 0), .ref q5])), (q1, .inl (c1, 11, .inl (fun _ => nI 0))), (q2, .inl (c2, 11, .inl (fun _ => nI 0))), (q3, .inl (c3, 11, .inl (fun _ => nI 0))), (q4, .inl (c4, 2048, .inl (fun _ => nI 0))), (q5, .inl (c5, 2048, .inl (fun _ => nI 0)))] := by
    unfold cd_wD
    simp only [cd_b0 (P := False) (fun h => h)]
    rfl
  have hP : va_P D cd_cls (cd_wD (cd_vec h0 q1 q2 q3 q4 q5) (cd_vec c1 c1 c2 c3 c4 c5) 0 (fun _ => 0) (fun _ => 0) (fun _ => 0) False 0 (fun _ => 0) 0 (fun _ => 0)) H := by rw [ew]; exact hP
  have hD : va_D A (cd_wD (cd_vec h0 q1 q2 q3 q4 q5) (cd_vec c1 c1 c2 c3 c4 c5) 0 (fun _ => 0) (fun _ => 0) (fun _ => 0) False 0 (fun _ => 0) 0 (fun _ => 0)) := by rw [ew]; exact hD
  have hK : va_K D cd_cls (cd_tD (cd_vec c1 c1 c2 c3 c4 c5)) s := hK
  exact W.vret hx hb hr (fun t ht hW => ⟨⟨(cd_vec h0 q1 q2 q3 q4 q5, cd_vec c1 c1 c2 c3 c4 c5), rfl, rfl, by rw [ht]; exact hP, va_K.moved hW.alike hK, hD⟩, hS.F ht⟩) hS.2.2 dX0_init_51
abbrev cd_oM (h0 : Nat) : va_W := [(h0, .inr (1, [.int (nI 0), .null, .null, .null, .int (nI 0), .null, .null]))]
set_option maxHeartbeats 4000000 in
set_option maxRecDepth 100000 in
/-- the constructor: five arrays come -/
theorem mM_init (l : Launch) (D : va_G) (h0 sz : Nat) : Met l yX1_init (ws_ yX1_init cX1_init 1 none) { frames := 1, cells := 5, slots := 2092, locals := 12 } (va_Pc [.ref h0] (fun U => U.heap.size = sz ∧ va_P D cd_cls (cd_oM h0) U.heap ∧ va_K D cd_cls [] U ∧ va_D (fun _ => True) (cd_oM h0))) (va_Qv (fun u : (Nat → Nat) × (Nat → ClassId) => u.1 0 = h0) (fun u t => va_P D cd_cls (cd_wM u.1 u.2 0 (fun _ => 0) (fun _ => 0) (fun _ => 0) False (fun _ => 0) (fun _ => False)) t.heap ∧ va_K D cd_cls (cd_tM u.2) t ∧ va_D (va_A (cd_oM h0) sz) (cd_wM u.1 u.2 0 (fun _ => 0) (fun _ => 0) (fun _ => 0) False (fun _ => 0) (fun _ => False))) (va_A (cd_oM h0) sz)) 5 2092 (va_A (cd_oM h0) sz) := by
  refine Met.ofW (cc := cX1_init) (maxL := 1) (ret := none) (by decide) rfl ?_
  intro p e s m args below meth c s₁ B hml hv
  obtain ⟨rfl, hsz, hP, hK, hD0⟩ := hv
  have hx := B.exec
  have hb := B.bytes
  have hr := B.returns
  have hts := atoms_spec (ws := ws_ yX1_init cX1_init 1 none) B.pre
  have hts : ∀ w ∈ lw_all, w.before _ s = true := fun w h => hts w (List.mem_cons_of_mem _ h)
  have hown : s.vm.findClass RX1 = some m.cls := findClass_of_methodNamed B.named
  have hlocks := B.notSynchronized
  have hin : meth.name = "<init>" := (name_of_methodNamed B.named B.method).1
  subst hsz
  have hD := hD0.self (sz := s.heap.size)
  generalize hAe : va_A (cd_oM h0) s.heap.size = A at hD ⊢
  have hA : ∀ q : Nat, s.heap.size ≤ q → A q := fun q h => by rw [← hAe]; exact Or.inr h
  have hS : va_S A s.heap s.heap [] := va_S.rf
  have hl := lv_entry ([.ref h0]) (n := 1) (Nat.le_of_ble_eq_true rfl)
  rw [lg_entry_eq]
  generalize (lg_sl ([.ref h0]) ++ List.replicate (1 - (lg_sl ([.ref h0])).length) Slot.unset).toArray = ls at hl ⊢
  have hl : lv_has ls 1 [(0, .ref h0)] := hl
  refine lv_aload_n hx hb dX1_init_0 rfl (lv_at hl 0 rfl) ?_
  refine W.objInit hx hb hown (hts _ q178) (hts _ q33) (hts _ q34) rfl (by rw [hml]; exact hl.1) rfl dX1_init_1 (Nat.le_of_ble_eq_true rfl) (Nat.le_of_ble_eq_true rfl) ?_
  refine W.eq (g2 := F0 m 4 ls []) rfl ?_
  refine lv_aload_n hx hb dX1_init_4 rfl (lv_at hl 0 rfl) ?_
  refine lv_bipush (v := nI 11) hx hb dX1_init_5 (by decide) ?_
  refine va_newa (atype := .int) (a0 := (11, .inl (fun _ => nI 0))) hx hb (hts _ q201) (ty := .int) rfl hK hP hD hS hA (fun _ => rfl) (by decide) (N' := 11) (by decide) (by decide) (by decide) (by decide) dX1_init_7 (fun q1 c1 H hK hP hD hS => ?_)
  have hK : va_K D cd_cls [(c1, .int)] s := hK
  have hP : va_P D cd_cls [(h0, .inr (1, [.int (nI 0), .null, .null, .null, .int (nI 0), .null, .null])), (q1, .inl (c1, 11, .inl (fun _ => nI 0)))] H := hP
  have hD : va_D A [(h0, .inr (1, [.int (nI 0), .null, .null, .null, .int (nI 0), .null, .null])), (q1, .inl (c1, 11, .inl (fun _ => nI 0)))] := hD
  refine W.widen (k := 1) (n := 11) (by omega) (by omega) ?_
  refine va_put (D := D) (ci := 1) (v := .ref q1) (ty := .array .int) (C := RX1) (T := TX1) (N := 7) hx hb hts in_X1 tyX1 tyX1_ok nmX1 hown hK hP hD hS 0 rfl rfl 1 (by decide) (hts _ q180) (fun _ h9 => h9) rfl (by decide +kernel) rfl rfl (Nat.le_of_ble_eq_true rfl) dX1_init_9 (fun H locs hP hD hS => ?_)
  have hP : va_P D cd_cls [(h0, .inr (1, [.int (nI 0), .ref q1, .null, .null, .int (nI 0), .null, .null])), (q1, .inl (c1, 11, .inl (fun _ => nI 0)))] H := hP
  have hD : va_D A [(h0, .inr (1, [.int (nI 0), .ref q1, .null, .null, .int (nI 0), .null, .null])), (q1, .inl (c1, 11, .inl (fun _ => nI 0)))] := hD
  refine lv_aload_n hx hb dX1_init_12 rfl (lv_at hl 0 rfl) ?_
  refine lv_bipush (v := nI 11) hx hb dX1_init_13 (by decide) ?_
  refine va_newa (atype := .int) (a0 := (11, .inl (fun _ => nI 0))) hx hb (hts _ q201) (ty := .int) rfl hK hP hD hS hA (fun _ => rfl) (by decide) (N' := 11) (by decide) (by decide) (by decide) (by decide) dX1_init_15 (fun q2 c2 H hK hP hD hS => ?_)
  have hK : va_K D cd_cls [(c1, .int), (c2, .int)] s := hK
  have hP : va_P D cd_cls [(h0, .inr (1, [.int (nI 0), .ref q1, .null, .null, .int (nI 0), .null, .null])), (q1, .inl (c1, 11, .inl (fun _ => nI 0))), (q2, .inl (c2, 11, .inl (fun _ => nI 0)))] H := hP
  have hD : va_D A [(h0, .inr (1, [.int (nI 0), .ref q1, .null, .null, .int (nI 0), .null, .null])), (q1, .inl (c1, 11, .inl (fun _ => nI 0))), (q2, .inl (c2, 11, .inl (fun _ => nI 0)))] := hD
  refine W.widen (k := 2) (n := 22) (by omega) (by omega) ?_
  refine va_put (D := D) (ci := 1) (v := .ref q2) (ty := .array .int) (C := RX1) (T := TX1) (N := 7) hx hb hts in_X1 tyX1 tyX1_ok nmX1 hown hK hP hD hS 0 rfl rfl 2 (by decide) (hts _ q181) (fun _ h9 => h9) rfl (by decide +kernel) rfl rfl (Nat.le_of_ble_eq_true rfl) dX1_init_17 (fun H locs hP hD hS => ?_)
  have hP : va_P D cd_cls [(h0, .inr (1, [.int (nI 0), .ref q1, .ref q2, .null, .int (nI 0), .null, .null])), (q1, .inl (c1, 11, .inl (fun _ => nI 0))), (q2, .inl (c2, 11, .inl (fun _ => nI 0)))] H := hP
  have hD : va_D A [(h0, .inr (1, [.int (nI 0), .ref q1, .ref q2, .null, .int (nI 0), .null, .null])), (q1, .inl (c1, 11, .inl (fun _ => nI 0))), (q2, .inl (c2, 11, .inl (fun _ => nI 0)))] := hD
  refine lv_aload_n hx hb dX1_init_20 rfl (lv_at hl 0 rfl) ?_
  refine lv_bipush (v := nI 11) hx hb dX1_init_21 (by decide) ?_
  refine va_newa (atype := .int) (a0 := (11, .inl (fun _ => nI 0))) hx hb (hts _ q201) (ty := .int) rfl hK hP hD hS hA (fun _ => rfl) (by decide) (N' := 11) (by decide) (by decide) (by decide) (by decide) dX1_init_23 (fun q3 c3 H hK hP hD hS => ?_)
  have hK : va_K D cd_cls [(c1, .int), (c2, .int), (c3, .int)] s := hK
  have hP : va_P D cd_cls [(h0, .inr (1, [.int (nI 0), .ref q1, .ref q2, .null, .int (nI 0), .null, .null])), (q1, .inl (c1, 11, .inl (fun _ => nI 0))), (q2, .inl (c2, 11, .inl (fun _ => nI 0))), (q3, .inl (c3, 11, .inl (fun _ => nI 0)))] H := hP
  have hD : va_D A [(h0, .inr (1, [.int (nI 0), .ref q1, .ref q2, .null, .int (nI 0), .null, .null])), (q1, .inl (c1, 11, .inl (fun _ => nI 0))), (q2, .inl (c2, 11, .inl (fun _ => nI 0))), (q3, .inl (c3, 11, .inl (fun _ => nI 0)))] := hD
  refine W.widen (k := 3) (n := 33) (by omega) (by omega) ?_
  refine va_put (D := D) (ci := 1) (v := .ref q3) (ty := .array .int) (C := RX1) (T := TX1) (N := 7) hx hb hts in_X1 tyX1 tyX1_ok nmX1 hown hK hP hD hS 0 rfl rfl 3 (by decide) (hts _ q182) (fun _ h9 => h9) rfl (by decide +kernel) rfl rfl (Nat.le_of_ble_eq_true rfl) dX1_init_25 (fun H locs hP hD hS => ?_)
  have hP : va_P D cd_cls [(h0, .inr (1, [.int (nI 0), .ref q1, .ref q2, .ref q3, .int (nI 0), .null, .null])), (q1, .inl (c1, 11, .inl (fun _ => nI 0))), (q2, .inl (c2, 11, .inl (fun _ => nI 0))), (q3, .inl (c3, 11, .inl (fun _ => nI 0)))] H := hP
  have hD : va_D A [(h0, .inr (1, [.int (nI 0), .ref q1, .ref q2, .ref q3, .int (nI 0), .null, .null])), (q1, .inl (c1, 11, .inl (fun _ => nI 0))), (q2, .inl (c2, 11, .inl (fun _ => nI 0))), (q3, .inl (c3, 11, .inl (fun _ => nI 0)))] := hD
  refine lv_aload_n hx hb dX1_init_28 rfl (lv_at hl 0 rfl) ?_
  refine lv_sipush (v := nI 2048) hx hb dX1_init_29 (by decide) ?_
  refine va_newa (atype := .int) (a0 := (2048, .inl (fun _ => nI 0))) hx hb (hts _ q201) (ty := .int) rfl hK hP hD hS hA (fun _ => rfl) (by decide) (N' := 2048) (by decide) (by decide) (by decide) (by decide) dX1_init_32 (fun q4 c4 H hK hP hD hS => ?_)
  have hK : va_K D cd_cls [(c1, .int), (c2, .int), (c3, .int), (c4, .int)] s := hK
  have hP : va_P D cd_cls [(h0, .inr (1, [.int (nI 0), .ref q1, .ref q2, .ref q3, .int (nI 0), .null, .null])), (q1, .inl (c1, 11, .inl (fun _ => nI 0))), (q2, .inl (c2, 11, .inl (fun _ => nI 0))), (q3, .inl (c3, 11, .inl (fun _ => nI 0))), (q4, .inl (c4, 2048, .inl (fun _ => nI 0)))] H := hP
  have hD : va_D A [(h0, .inr (1, [.int (nI 0), .ref q1, .ref q2, .ref q3, .int (nI 0), .null, .null])), (q1, .inl (c1, 11, .inl (fun _ => nI 0))), (q2, .inl (c2, 11, .inl (fun _ => nI 0))), (q3, .inl (c3, 11, .inl (fun _ => nI 0))), (q4, .inl (c4, 2048, .inl (fun _ => nI 0)))] := hD
  refine W.widen (k := 4) (n := 2081) (by omega) (by omega) ?_
  refine va_put (D := D) (ci := 1) (v := .ref q4) (ty := .array .int) (C := RX1) (T := TX1) (N := 7) hx hb hts in_X1 tyX1 tyX1_ok nmX1 hown hK hP hD hS 0 rfl rfl 5 (by decide) (hts _ q184) (fun _ h9 => h9) rfl (by decide +kernel) rfl rfl (Nat.le_of_ble_eq_true rfl) dX1_init_34 (fun H locs hP hD hS => ?_)
  have hP : va_P D cd_cls [(h0, .inr (1, [.int (nI 0), .ref q1, .ref q2, .ref q3, .int (nI 0), .ref q4, .null])), (q1, .inl (c1, 11, .inl (fun _ => nI 0))), (q2, .inl (c2, 11, .inl (fun _ => nI 0))), (q3, .inl (c3, 11, .inl (fun _ => nI 0))), (q4, .inl (c4, 2048, .inl (fun _ => nI 0)))] H := hP
  have hD : va_D A [(h0, .inr (1, [.int (nI 0), .ref q1, .ref q2, .ref q3, .int (nI 0), .ref q4, .null])), (q1, .inl (c1, 11, .inl (fun _ => nI 0))), (q2, .inl (c2, 11, .inl (fun _ => nI 0))), (q3, .inl (c3, 11, .inl (fun _ => nI 0))), (q4, .inl (c4, 2048, .inl (fun _ => nI 0)))] := hD
  refine lv_aload_n hx hb dX1_init_37 rfl (lv_at hl 0 rfl) ?_
  refine lv_bipush (v := nI 11) hx hb dX1_init_38 (by decide) ?_
  refine va_newa (atype := .boolean) (a0 := (11, .inl (fun _ => nI 0))) hx hb (hts _ q202) (ty := .boolean) rfl hK hP hD hS hA (fun _ => rfl) (by decide) (N' := 11) (by decide) (by decide) (by decide) (by decide) dX1_init_40 (fun q5 c5 H hK hP hD hS => ?_)
  have hK : va_K D cd_cls [(c1, .int), (c2, .int), (c3, .int), (c4, .int), (c5, .boolean)] s := hK
  have hP : va_P D cd_cls [(h0, .inr (1, [.int (nI 0), .ref q1, .ref q2, .ref q3, .int (nI 0), .ref q4, .null])), (q1, .inl (c1, 11, .inl (fun _ => nI 0))), (q2, .inl (c2, 11, .inl (fun _ => nI 0))), (q3, .inl (c3, 11, .inl (fun _ => nI 0))), (q4, .inl (c4, 2048, .inl (fun _ => nI 0))), (q5, .inl (c5, 11, .inl (fun _ => nI 0)))] H := hP
  have hD : va_D A [(h0, .inr (1, [.int (nI 0), .ref q1, .ref q2, .ref q3, .int (nI 0), .ref q4, .null])), (q1, .inl (c1, 11, .inl (fun _ => nI 0))), (q2, .inl (c2, 11, .inl (fun _ => nI 0))), (q3, .inl (c3, 11, .inl (fun _ => nI 0))), (q4, .inl (c4, 2048, .inl (fun _ => nI 0))), (q5, .inl (c5, 11, .inl (fun _ => nI 0)))] := hD
  refine W.widen (k := 5) (n := 2092) (by omega) (by omega) ?_
  refine va_put (D := D) (ci := 1) (v := .ref q5) (ty := .array .boolean) (C := RX1) (T := TX1) (N := 7) hx hb hts in_X1 tyX1 tyX1_ok nmX1 hown hK hP hD hS 0 rfl rfl 6 (by decide) (hts _ q185) (fun _ h9 => h9) rfl (by decide +kernel) rfl rfl (Nat.le_of_ble_eq_true rfl) dX1_init_42 (fun H locs hP hD hS => ?_)
  have hP : va_P D cd_cls [(h0, .inr (1, [.int (nI 0), .ref q1, .ref q2, .ref q3, .int (nI 0), .ref q4, .ref q5])), (q1, .inl (c1, 11, .inl (fun _ => nI 0))), (q2, .inl (c2, 11, .inl (fun _ => nI 0))), (q3, .inl (c3, 11, .inl (fun _ => nI 0))), (q4, .inl (c4, 2048, .inl (fun _ => nI 0))), (q5, .inl (c5, 11, .inl (fun _ => nI 0)))] H := hP
  have hD : va_D A [(h0, .inr (1, [.int (nI 0), .ref q1, .ref q2, .ref q3, .int (nI 0), .ref q4, .ref q5])), (q1, .inl (c1, 11, .inl (fun _ => nI 0))), (q2, .inl (c2, 11, .inl (fun _ => nI 0))), (q3, .inl (c3, 11, .inl (fun _ => nI 0))), (q4, .inl (c4, 2048, .inl (fun _ => nI 0))), (q5, .inl (c5, 11, .inl (fun _ => nI 0)))] := hD
  have ew : cd_wM (cd_vec h0 q1 q2 q3 q4 q5) (cd_vec c1 c1 c2 c3 c4 c5) 0 (fun _ => 0) (fun _ => 0) (fun _ => 0) False (fun _ => 0) (fun _ => False) = [(h0, .inr (1, [.int (nI 0), .ref q1, .ref q2, .ref q3, .int (nI 0), .ref q4, .ref q5])), (q1, .inl (c1, 11, .inl (fun _ => nI 0))), (q2, .inl (c2, 11, .inl (fun _ => nI 0))), (q3, .inl (c3, 11, .inl (fun _ => nI 0))), (q4, .inl (c4, 2048, .inl (fun _ => nI 0))), (q5, .inl (c5, 11, .inl (fun _ => nI 0)))] := by
    unfold cd_wM
    simp only [cd_b0 (P := False) (fun h => h)]
    rfl
  have hP : va_P D cd_cls (cd_wM (cd_vec h0 q1 q2 q3 q4 q5) (cd_vec c1 c1 c2 c3 c4 c5) 0 (fun _ => 0) (fun _ => 0) (fun _ => 0) False (fun _ => 0) (fun _ => False)) H := by rw [ew]; exact hP
  have hD : va_D A (cd_wM (cd_vec h0 q1 q2 q3 q4 q5) (cd_vec c1 c1 c2 c3 c4 c5) 0 (fun _ => 0) (fun _ => 0) (fun _ => 0) False (fun _ => 0) (fun _ => False)) := by rw [ew]; exact hD
  have hK : va_K D cd_cls (cd_tM (cd_vec c1 c1 c2 c3 c4 c5)) s := hK
  exact W.vret hx hb hr (fun t ht hW => ⟨⟨(cd_vec h0 q1 q2 q3 q4 q5, cd_vec c1 c1 c2 c3 c4 c5), rfl, rfl, by rw [ht]; exact hP, va_K.moved hW.alike hK, hD⟩, hS.F ht⟩) hS.2.2 dX1_init_45
end
section
set_option maxRecDepth 100000
/-! THE CLAIM OUT OF ONE WALK OF THE LAW'S BODY. Your part is whole_start (and what it stands on); all else here is the same for every law, but numbers. -/
def R_law : String := "ConstructiveDeskLaw"
def lw_P (b : Addr) (xs : List Int32) (args : Array Value) (s : State) : Prop := args = #[.ref b] ∧ s.IntsAt b xs ∧ xs.length ≤ 256 ∧ (Jvm.Cond.and given_1 narrow_1).before args s = true
def lw_Q (_ : Array Value) (s : State) (o : Outcome) (t : State) : Prop := o = .returned (some (.int 1)) ∧ Framed s o t [] 600000 7290000
def lw_Z (below : List Frame) (a : Array Value) (s : State) : State → Prop := fun t => ∃ o, t.status = .running ∧ Ended t below o ∧ lw_Q a s o t
/-- the law's own end, with 1 on the stack, nothing written that was there before, its room as the claim has it -/
theorem lw_ret {p : Program} {l : Launch} {e : Env} {s : State} {m : MethodId} {below : List Frame} {meth : Method} {c : Code} {b : Nat} (hx : p.tables.exec = Jvm.exec) (hb : c.code = code) (hr : meth.sig.returnType = ret) (hlocks : meth.locks = false) {pc : Nat} {H : Heap} {ls : Array Slot} (hdg : decode code pc = .ok (.ireturn, 1)) : W p l e room_1 s m #[Value.ref b] below meth c H [] 600000 7290000 (lw_Z below #[Value.ref b] s) (F0 m pc ls [.int 1]) := by
  intro T hT X
  obtain ⟨fs, hret, hrun, hended, hW, hframe⟩ := X.leave (v := some (.int 1)) (hlocks := hlocks) (fun h => by rw [hr] at h; cases h)
  have hmeth' : T.vm.method? m = some meth := X.method'
  refine ⟨T.setFrames fs, ?_, .returned (some (.int 1)), hrun, hended, rfl, ⟨_, rfl⟩, hW, hframe⟩
  jvm_step X.here [X.here.top, hx, hb, hdg, hmeth', hr, ret, narrow_b1]
  (try refine ⟨rfl, ?_⟩); (try refine ⟨rfl, ?_⟩)
  first | (intro acts; rw [hret _ acts rfl rfl rfl]) | rw [hret _ _ rfl rfl rfl]
  exact Steps.refl _
/-- what holds at the law's entry: the machine, the code, the tables' words (any of lw_tbl by 'hts w (by decide +kernel)'), the script of L ints xs at the cell b, what the Statement gives of the start (any of its parts by flat_of_before) -/
def lw_At (p : Program) (s : State) (m : MethodId) (meth : Method) (c : Code) (b L : Nat) (xs : Nat → Int32) : Prop :=
  p.tables.exec = Jvm.exec ∧ c.code = code ∧ meth.sig.returnType = ret ∧ c.maxLocals = 4 ∧ s.vm.findClass R_law = some m.cls ∧ (∀ w ∈ lw_tbl, w.before #[Value.ref b] s = true) ∧ va_X b L xs s s.heap ∧ b < s.heap.size ∧ meth.locks = false ∧ (Jvm.Cond.and given_1 narrow_1).before #[Value.ref b] s = true
end
section
/-! the two objects side by side -/
section CdTwo
variable {A : Nat → Prop} {w1 w2 : va_W}
theorem cd_apl {k : Nat} {q : Nat × va_E} (h : w1[k]? = some q) : (w1 ++ w2)[k]? = some q := by
  rw [List.getElem?_append_left (List.getElem?_eq_some_iff.mp h).1]; exact h
theorem cd_apr {k : Nat} {q : Nat × va_E} (h : w2[k]? = some q) : (w1 ++ w2)[w1.length + k]? = some q := by
  rw [List.getElem?_append_right (Nat.le_add_right _ _), Nat.add_sub_cancel_left]; exact h
theorem cd_Dl (h : va_D A (w1 ++ w2)) : va_D A w1 := ⟨fun i j p q hi hj e => h.1 i j p q (cd_apl hi) (cd_apl hj) e, fun k q hk => h.2 k q (cd_apl hk)⟩
theorem cd_Dr (h : va_D A (w1 ++ w2)) : va_D A w2 := ⟨fun i j p q hi hj e => by have := h.1 _ _ p q (cd_apr hi) (cd_apr hj) e; omega, fun k q hk => h.2 _ q (cd_apr hk)⟩
theorem cd_Dx (h : va_D A (w1 ++ w2)) : ∀ (i j : Nat) (p q : Nat × va_E), w1[i]? = some p → w2[j]? = some q → p.1 ≠ q.1 := fun i j p q hi hj e => by
  have h1 := h.1 i (w1.length + j) p q (cd_apl hi) (cd_apr hj) e
  have h2 := (List.getElem?_eq_some_iff.mp hi).1
  omega
theorem cd_swapD (h : va_D A (w1 ++ w2)) : va_D A (w2 ++ w1) := va_D.app (cd_Dr h) (cd_Dl h) (fun i j p q hi hj e => cd_Dx h j i q p hj hi e.symm)
theorem cd_Pl {D : va_G} {H : Heap} (h : va_P D cd_cls (w1 ++ w2) H) : va_P D cd_cls w1 H := fun k q hk => h k q (cd_apl hk)
theorem cd_Pr {D : va_G} {H : Heap} (h : va_P D cd_cls (w1 ++ w2) H) : va_P D cd_cls w2 H := fun k q hk => h _ q (cd_apr hk)
/-- a call on one of two objects: the other is unchanged -/
theorem cd_keep {D : va_G} {H H1 : Heap} {w' : va_W} (hP1 : va_P D cd_cls w1 H) (hP2 : va_P D cd_cls w2 H) (hD : va_D A (w1 ++ w2)) (hF : ∀ q, va_A w1 H.size q → A q) (hk : ∀ q : Nat, q < H.size → ¬ va_A w1 H.size q → H1[q]? = H[q]?) (hP' : va_P D cd_cls w' H1) (hD' : va_D (va_A w1 H.size) w') : va_P D cd_cls w2 H1 ∧ va_D A (w' ++ w2) := by
  have out : ∀ (k : Nat) (q : Nat × va_E), w2[k]? = some q → q.1 < H.size ∧ ¬ va_A w1 H.size q.1 := by
    intro k q hq
    have hl := (hP2 k q hq).lt
    refine ⟨hl, fun h => ?_⟩
    rcases h with ⟨j, e, h⟩ | h
    · exact cd_Dx hD j k (q.1, e) q h hq rfl
    · omega
  refine ⟨hP2.kept (fun k q hq => hk q.1 (out k q hq).1 (out k q hq).2), va_D.app (hD'.weaken (fun k q _ h => hF _ h)) (cd_Dr hD) (fun i j p q hi hj e => ?_)⟩
  have := hD'.2 i p hi
  rw [e] at this
  exact (out j q hj).2 this
end CdTwo
section CdLaw
variable {p : Program} {l : Launch} {e : Env} {R0 : Room} {s : State} {m : MethodId} {args : Array Value} {below : List Frame} {meth : Method} {c : Code} {H : Heap} {locs : List Loc} {cells slots : Nat} {Q : State → Prop}
variable {cc : ByteArray} {pc : Nat} {ls : Array Slot} {rest : List Value} {D : va_G} {tys : List (ClassId × FieldType)} {A : Nat → Prop} {H0 : Heap}
theorem cd_lawRW {y : MethodName} {ws : List Cond} {rm : Room} {wc w2 : va_W} {b : Nat} {As : List Value} {own C : String} {index : Nat} {bytes : ByteArray} {maxL : Nat} {ret : Option FieldType} {k nL : Nat} {ci : Nat} {q : vw_C} {fs : List Value} {st0 : List Value} {S : Type} {post : Int32 → S → Prop} {w' : S → va_W} (S0 : CallFix p m c cc nL s args lw_all own) (hM : cd_RW l y ws rm D tys wc (.ref b :: As) post w') (cw : CallW R0 s args own C index y bytes maxL ret ws rm 0 0 k) (hc : cd_cls[ci]? = some q) (hq : q.1 = C) (he : wc[0]? = some (b, .inr (ci, fs))) (hP : va_P D cd_cls wc H) (hP2 : va_P D cd_cls w2 H) (hK : va_K D cd_cls tys s) (hD : va_D A (wc ++ w2)) (hS : va_S A H0 H locs) (hA : ∀ q, H0.size ≤ q → A q) (hn : As.length = k) (hsize : ls.size = nL) (hst : st0 = As.reverse ++ .ref b :: rest) (hroom : (rest.map fun v => v.category).sum ≤ 8) (hdg : decode cc pc = .ok (.invokevirtual index, 3)) (hf : cells ≤ R0.cells ∧ slots ≤ R0.slots)
    (kk : ∀ (r : Int32) (u : S) (H1 : Heap) (locs1 : List Loc), post r u → va_P D cd_cls (w' u) H1 → va_P D cd_cls w2 H1 → va_D A (w' u ++ w2) → va_S A H0 H1 locs1 → W p l e R0 s m args below meth c H1 locs1 cells slots Q (F0 m (pc + 3) ls (.int r :: rest))) : W p l e R0 s m args below meth c H locs cells slots Q (F0 m pc ls st0) := by
  have hF := cd_inA (cd_Dl hD) hS hA
  refine va_calli (va_runV (g := F0 m pc ls st0) (As := As) (rest := rest) (b := b) S0 (hM H.size) cw ⟨?_, ?_, ?_⟩ rfl hn hsize hst (lv_room hroom) hdg hf) hS (fun q _ h => hF q h) hF (fun r u t H1 locs1 ht hvm hpost hB hz hk hS1 => ?_)
  · intro a U g mk h
    obtain ⟨h0, h1, h2, h3, h4⟩ := h
    exact ⟨h0, h1, h2, va_K.moved (u := U) (U := U.calling g mk a) (Vm.Alike.refl U.vm) h3, h4⟩
  · subst hq
    exact va_recv hK hP hc he
  · intro U hU hW
    exact ⟨rfl, by rw [hU], by rw [hU]; exact hP, va_K.moved hW.alike hK, (cd_Dl hD).weaken (fun _ _ _ _ => trivial)⟩
  · obtain ⟨hP1, hD1⟩ := hB
    rw [ht] at hP1
    obtain ⟨g1, g2⟩ := cd_keep hP hP2 hD hF hk hP1 hD1
    exact kk r u H1 locs1 hpost hP1 g1 g2 hS1
end CdLaw
/-- what holds between the two objects -/
def cd_LI (n : Nat) (K L R : Nat → Nat) (kn : Prop) (fd : Nat) (Wl : Nat → Nat) (kn2 : Prop) (F : Nat → Nat) : Prop := cd_wf n K L R ∧ (kn → cd_WL n K L R 0 fd Wl) ∧ (kn2 → ∀ Z, Z < 2 ^ n → F Z = cd_cl n K L R Z)
section CdLI
variable {n : Nat} {K L R : Nat → Nat} {kn : Prop} {fd : Nat} {Wl : Nat → Nat} {kn2 : Prop} {F : Nat → Nat}
theorem cd_wf_push {w x y : Nat} (h : cd_wf n K L R) (hn : n < 11) (hw : w ≤ 4) (hx : x ≤ 10) (hy : y ≤ 10) (hp : w ≤ 2 → x < n ∧ y < n) : cd_wf (n + 1) (cd_up K n w) (cd_up L n x) (cd_up R n y) := by
  refine ⟨hn, fun i hi => ?_⟩
  by_cases e : i = n
  · subst e
    rw [cd_up_s, cd_up_s, cd_up_s]
    exact ⟨hw, hx, hy, hp⟩
  · rw [cd_up_n _ e, cd_up_n _ e, cd_up_n _ e]
    exact h.2 i (by omega)
theorem cd_pu_two {w x y : Nat} {r r2 : Int32} {u u2 : Nat × (Nat → Nat) × (Nat → Nat) × (Nat → Nat) × Prop} (hI : cd_LI n K L R kn fd Wl kn2 F) (hw : w ≤ 4) (hx : x ≤ 10) (hy : y ≤ 10) (hp : w ≤ 2 → x < n ∧ y < n) (h1 : cd_pu n K L R kn w x y r u) (h2 : cd_pu n K L R kn2 w x y r2 u2) : r = r2 ∧ ∃ n' K' L' R' k1 k2, u = (n', K', L', R', k1) ∧ u2 = (n', K', L', R', k2) ∧ cd_LI n' K' L' R' k1 fd Wl k2 F := by
  rcases h1 with ⟨i, i1, i2, i3, e, eu⟩ | ⟨z, zn, e, eu⟩ | ⟨z, zn, e, eu⟩
  · rcases h2 with ⟨j, j1, j2, j3, f, fu⟩ | ⟨y, -, -, -⟩ | ⟨y, -, -, -⟩
    · have : i = j := by
        rcases Nat.lt_trichotomy i j with q | q | q
        · exact absurd i2 (j3 i q)
        · exact q
        · exact absurd j2 (i3 j q)
      subst this
      exact ⟨by rw [e, f], n, K, L, R, kn, kn2, eu, fu, hI⟩
    · exact absurd i2 (y i i1)
    · exact absurd i2 (y i i1)
  · rcases h2 with ⟨j, j1, j2, -, -, -⟩ | ⟨-, -, f, fu⟩ | ⟨-, yn, -, -⟩
    · exact absurd j2 (z j j1)
    · exact ⟨by rw [e, f], n, K, L, R, kn, kn2, eu, fu, hI⟩
    · omega
  · rcases h2 with ⟨j, j1, j2, -, -, -⟩ | ⟨-, yn, -, -⟩ | ⟨-, -, f, fu⟩
    · exact absurd j2 (z j j1)
    · omega
    · exact ⟨by rw [e, f], _, _, _, _, _, _, eu, fu, cd_wf_push hI.1 zn hw hx hy hp, fun h => h.elim, fun h => h.elim⟩
theorem cd_at_two {x : Int32} {r r2 : Int32} {u u2 : Nat × (Nat → Nat) × (Nat → Nat) × (Nat → Nat) × Prop} (hI : cd_LI n K L R kn fd Wl kn2 F) (h1 : cd_at n K L R kn x r u) (h2 : cd_at n K L R kn2 x r2 u2) : r = r2 ∧ ∃ n' K' L' R' k1 k2, u = (n', K', L', R', k1) ∧ u2 = (n', K', L', R', k2) ∧ cd_LI n' K' L' R' k1 fd Wl k2 F := by
  rcases h1 with ⟨a, e, eu⟩ | ⟨k, hk, e, a⟩
  · rcases h2 with ⟨-, f, fu⟩ | ⟨k, hk, f, -⟩
    · exact ⟨by rw [e, f], n, K, L, R, kn, kn2, eu, fu, hI⟩
    · subst f; exact absurd a (cd_ixn (n := 4) (by decide) hk)
  · subst e
    rcases h2 with ⟨b, -, -⟩ | ⟨j, hj, f, b⟩
    · exact absurd b (cd_ixn (n := 4) (by decide) hk)
    · have := (nI_eq (by omega) (by omega)).mp f
      subst this
      exact cd_pu_two hI (by decide) (by omega) (by decide) (fun h => absurd h (by decide)) a b
theorem cd_jo_two {x y z : Int32} {r r2 : Int32} {u u2 : Nat × (Nat → Nat) × (Nat → Nat) × (Nat → Nat) × Prop} (hI : cd_LI n K L R kn fd Wl kn2 F) (h1 : cd_jo n K L R kn x y z r u) (h2 : cd_jo n K L R kn2 x y z r2 u2) : r = r2 ∧ ∃ n' K' L' R' k1 k2, u = (n', K', L', R', k1) ∧ u2 = (n', K', L', R', k2) ∧ cd_LI n' K' L' R' k1 fd Wl k2 F := by
  have hn := hI.1.1
  have bad : ∀ {k i j : Nat}, k ≤ 2 → i < n → j < n → ¬ ((nI k < 0 ∨ nI 2 < nI k) ∨ (nI i < 0 ∨ nI n ≤ nI i) ∨ (nI j < 0 ∨ nI n ≤ nI j)) := by
    intro k i j hk hi hj h
    rcases h with (h | h) | h | h
    · exact nI_pos (by omega) h
    · exact nI_nlt (by omega) (by decide) h
    · exact cd_ixn hn hi h
    · exact cd_ixn hn hj h
  rcases h1 with ⟨a, e, eu⟩ | ⟨k, i, j, hk, e1, hi, e2, hj, e3, a⟩
  · rcases h2 with ⟨-, f, fu⟩ | ⟨k, i, j, hk, f1, hi, f2, hj, f3, -⟩
    · exact ⟨by rw [e, f], n, K, L, R, kn, kn2, eu, fu, hI⟩
    · subst f1; subst f2; subst f3; exact absurd a (bad hk hi hj)
  · subst e1; subst e2; subst e3
    rcases h2 with ⟨b, -, -⟩ | ⟨k', i', j', hk', f1, hi', f2, hj', f3, b⟩
    · exact absurd b (bad hk hi hj)
    · have g1 := (nI_eq (by omega) (by omega)).mp f1
      have g2 := (nI_eq (by omega) (by omega)).mp f2
      have g3 := (nI_eq (by omega) (by omega)).mp f3
      subst g1; subst g2; subst g3
      exact cd_pu_two hI (by omega) (by omega) (by omega) (fun _ => ⟨hi, hj⟩) a b
theorem cd_dr_two {r r2 : Int32} {u u2 : Nat × (Nat → Nat) × (Nat → Nat) × (Nat → Nat) × Prop} (hI : cd_LI n K L R kn fd Wl kn2 F) (h1 : cd_dr n K L R kn r u) (h2 : cd_dr n K L R kn2 r2 u2) : r = r2 ∧ ∃ n' K' L' R' k1 k2, u = (n', K', L', R', k1) ∧ u2 = (n', K', L', R', k2) ∧ cd_LI n' K' L' R' k1 fd Wl k2 F := by
  rcases h1 with ⟨a, e, eu⟩ | ⟨a, e, eu⟩
  · rcases h2 with ⟨-, f, fu⟩ | ⟨b, -, -⟩
    · exact ⟨by rw [e, f], n, K, L, R, kn, kn2, eu, fu, hI⟩
    · omega
  · rcases h2 with ⟨b, -, -⟩ | ⟨-, f, fu⟩
    · omega
    · refine ⟨by rw [e, f], _, _, _, _, _, _, eu, fu, ⟨?_, fun i hi => hI.1.2 i (by omega)⟩, fun h => h.elim, fun h => h.elim⟩
      have := hI.1.1
      omega
end CdLI
/-- the law's own test -/
theorem cd_lawc {i N : Nat} (hi : i ≤ 256) (hN : N ≤ 256) : (Int32.ofNat N - nI 4 < nI i) ↔ N < i + 4 := by
  rw [Int32.lt_iff_toInt_lt, show Int32.ofNat N = nI N from rfl, pk_sub_toInt (by omega) (by omega), nI_toInt (by omega)]
  omega
end
section
/-! the law's cases: each call on the two objects answers the same, and what holds between them holds behind it -/
def cd_Cont (p : Program) (l : Launch) (e : Env) (s : State) (m : MethodId) (b : Nat) (below : List Frame) (meth : Method) (c : Code) (D : va_G) (a : Nat → Nat) (d : Nat → ClassId) (a2 : Nat → Nat) (d2 : Nat → ClassId) (i pc : Nat) : Prop :=
  ∀ (n : Nat) (K L R : Nat → Nat) (kn : Prop) (fd : Nat) (Wl : Nat → Nat) (hu : Nat) (Hl : Nat → Nat) (kn2 : Prop) (F : Nat → Nat) (T : Nat → Prop) (H : Heap) (locs : List Loc) (ls : Array Slot), cd_LI n K L R kn fd Wl kn2 F → va_P D cd_cls (cd_wD a d n K L R kn fd Wl hu Hl) H → va_P D cd_cls (cd_wM a2 d2 n K L R kn2 F T) H → va_D (fun q : Nat => s.heap.size ≤ q) (cd_wD a d n K L R kn fd Wl hu Hl ++ cd_wM a2 d2 n K L R kn2 F T) → va_S (fun q : Nat => s.heap.size ≤ q) s.heap H locs → lv_has ls 4 [(0, .ref b), (1, .ref (a 0)), (2, .ref (a2 0)), (3, .int (nI i))] → W p l e room_1 s m #[Value.ref b] below meth c H locs 12 6237 (lw_Z below #[Value.ref b] s) (F0 m pc ls [])
theorem kLD_atom {R0 : Room} {s : State} {args : Array Value} (hts : ∀ w ∈ lw_all, w.before args s = true) (h : (cd_rm 1).frames + 1 ≤ R0.frames ∧ 8 + (2 + 11) + (cd_rm 1).locals ≤ R0.locals) : CallW R0 s args R_law RX0 13 yX0_atom cX0_atom 2 (some .int) (ws_ yX0_atom cX0_atom 2 (some .int)) (cd_rm 1) 0 0 1 := cwV 1 hts (lw_V q65 q66 q67 q25 q68) rfl rfl rfl (by decide +kernel) h
theorem kLM_atom {R0 : Room} {s : State} {args : Array Value} (hts : ∀ w ∈ lw_all, w.before args s = true) (h : (cd_rm 2).frames + 1 ≤ R0.frames ∧ 8 + (2 + 11) + (cd_rm 2).locals ≤ R0.locals) : CallW R0 s args R_law RX1 17 yX1_atom cX1_atom 2 (some .int) (ws_ yX1_atom cX1_atom 2 (some .int)) (cd_rm 2) 0 0 1 := cwV 1 hts (lw_V q203 q204 q205 q26 q206) rfl rfl rfl (by decide +kernel) h
set_option maxHeartbeats 4000000 in
set_option maxRecDepth 100000 in
/-- the law's case 0: atom -/
theorem law_atom {p : Program} {l : Launch} {e : Env} {s : State} {m : MethodId} {below : List Frame} {meth : Method} {c : Code} {b N : Nat} {xs : Nat → Int32} {D : va_G} {a : Nat → Nat} {d : Nat → ClassId} {a2 : Nat → Nat} {d2 : Nat → ClassId} {i : Nat} (C0 : lw_At p s m meth c b N xs) (hKD : va_K D cd_cls (cd_tD d) s) (hKM : va_K D cd_cls (cd_tM d2) s) (hN : N ≤ 256) (hi : i + 4 ≤ N) (k : cd_Cont p l e s m b below meth c D a d a2 d2 i 446) : cd_Cont p l e s m b below meth c D a d a2 d2 i 104 := by
  intro n K L R kn fd Wl hu Hl kn2 F T H locs ls hI hP hQ hD hS hl
  obtain ⟨hx, hb, hr, hml, hown, hts0, hX, hbl, hlocks, hgv⟩ := id C0
  have hts : ∀ w ∈ lw_all, w.before #[Value.ref b] s = true := fun w h => hts0 w (lw_all_tbl h)
  have hA : ∀ q : Nat, s.heap.size ≤ q → (fun q : Nat => s.heap.size ≤ q) q := fun _ h => h
  have hbA : ¬ (fun q : Nat => s.heap.size ≤ q) b := Nat.not_le.mpr hbl
  refine lv_aload_n hx hb dL_law_104 rfl (lv_at hl 1 rfl) ?_
  refine lv_aload_n hx hb dL_law_105 rfl (lv_at hl 0 rfl) ?_
  refine lv_iload_n hx hb dL_law_106 rfl (lv_at hl 3 rfl) ?_
  refine lv_iconst (v := nI 1) hx hb dL_law_107 (by decide) ?_
  refine lv_iadd hx hb dL_law_108 ?_
  refine cd_v (y := nI (i + 1)) (nI_add _ _) ?_
  refine va_sld hx hb hX hbl hbA hS (vp_in_nI (by omega) (by omega)) dL_law_109 ?_
  refine cd_v (y := xs (i + 1)) (congrArg xs (nI_clamp (by omega))) ?_
  refine cd_lawRW ⟨hx, hb, hml, hown, hts⟩ (mD_atom l D a d n K L R kn fd Wl hu Hl (xs (i + 1)) hI.1) (kLD_atom hts ⟨Nat.le_of_ble_eq_true rfl, Nat.le_of_ble_eq_true rfl⟩) rfl rfl rfl hP hQ hKD hD hS hA rfl hl.1 rfl (Nat.le_of_ble_eq_true rfl) dL_law_110 ⟨Nat.le_of_ble_eq_true rfl, Nat.le_of_ble_eq_true rfl⟩ (fun r1 u1 H locs h1 hP hQ hD hS => ?_)
  refine lv_aload_n hx hb dL_law_113 rfl (lv_at hl 2 rfl) ?_
  refine lv_aload_n hx hb dL_law_114 rfl (lv_at hl 0 rfl) ?_
  refine lv_iload_n hx hb dL_law_115 rfl (lv_at hl 3 rfl) ?_
  refine lv_iconst (v := nI 1) hx hb dL_law_116 (by decide) ?_
  refine lv_iadd hx hb dL_law_117 ?_
  refine cd_v (y := nI (i + 1)) (nI_add _ _) ?_
  refine va_sld hx hb hX hbl hbA hS (vp_in_nI (by omega) (by omega)) dL_law_118 ?_
  refine cd_v (y := xs (i + 1)) (congrArg xs (nI_clamp (by omega))) ?_
  refine cd_lawRW ⟨hx, hb, hml, hown, hts⟩ (mM_atom l D a2 d2 n K L R kn2 F T (xs (i + 1)) hI.1) (kLM_atom hts ⟨Nat.le_of_ble_eq_true rfl, Nat.le_of_ble_eq_true rfl⟩) rfl rfl rfl hQ hP hKM (cd_swapD hD) hS hA rfl hl.1 rfl (Nat.le_of_ble_eq_true rfl) dL_law_119 ⟨Nat.le_of_ble_eq_true rfl, Nat.le_of_ble_eq_true rfl⟩ (fun r2 u2 H locs h2 hQ hP hD hS => ?_)
  obtain ⟨er, n', K', L', R', k1, k2, e1, e2, hI'⟩ := cd_at_two hI h1 h2
  subst e1
  subst e2
  refine lv_icmp_eq (tgt := 446) hx hb dL_law_122 (by decide) (fun _ => ?_) (fun z => absurd er z)
  exact k n' K' L' R' k1 fd Wl hu Hl k2 F T H locs ls hI' hP hQ (cd_swapD hD) hS hl
theorem kLD_falsum {R0 : Room} {s : State} {args : Array Value} (hts : ∀ w ∈ lw_all, w.before args s = true) (h : (cd_rm 1).frames + 1 ≤ R0.frames ∧ 8 + (1 + 11) + (cd_rm 1).locals ≤ R0.locals) : CallW R0 s args R_law RX0 18 yX0_falsum cX0_falsum 1 (some .int) (ws_ yX0_falsum cX0_falsum 1 (some .int)) (cd_rm 1) 0 0 0 := cwV 0 hts (lw_V q73 q74 q75 q25 q76) rfl rfl rfl (by decide +kernel) h
theorem kLM_falsum {R0 : Room} {s : State} {args : Array Value} (hts : ∀ w ∈ lw_all, w.before args s = true) (h : (cd_rm 2).frames + 1 ≤ R0.frames ∧ 8 + (1 + 11) + (cd_rm 2).locals ≤ R0.locals) : CallW R0 s args R_law RX1 22 yX1_falsum cX1_falsum 1 (some .int) (ws_ yX1_falsum cX1_falsum 1 (some .int)) (cd_rm 2) 0 0 0 := cwV 0 hts (lw_V q215 q216 q217 q26 q218) rfl rfl rfl (by decide +kernel) h
set_option maxHeartbeats 4000000 in
set_option maxRecDepth 100000 in
/-- the law's case 1: falsum -/
theorem law_falsum {p : Program} {l : Launch} {e : Env} {s : State} {m : MethodId} {below : List Frame} {meth : Method} {c : Code} {b N : Nat} {xs : Nat → Int32} {D : va_G} {a : Nat → Nat} {d : Nat → ClassId} {a2 : Nat → Nat} {d2 : Nat → ClassId} {i : Nat} (C0 : lw_At p s m meth c b N xs) (hKD : va_K D cd_cls (cd_tD d) s) (hKM : va_K D cd_cls (cd_tM d2) s) (hN : N ≤ 256) (hi : i + 4 ≤ N) (k : cd_Cont p l e s m b below meth c D a d a2 d2 i 446) : cd_Cont p l e s m b below meth c D a d a2 d2 i 127 := by
  intro n K L R kn fd Wl hu Hl kn2 F T H locs ls hI hP hQ hD hS hl
  obtain ⟨hx, hb, hr, hml, hown, hts0, hX, hbl, hlocks, hgv⟩ := id C0
  have hts : ∀ w ∈ lw_all, w.before #[Value.ref b] s = true := fun w h => hts0 w (lw_all_tbl h)
  have hA : ∀ q : Nat, s.heap.size ≤ q → (fun q : Nat => s.heap.size ≤ q) q := fun _ h => h
  have hbA : ¬ (fun q : Nat => s.heap.size ≤ q) b := Nat.not_le.mpr hbl
  refine lv_aload_n hx hb dL_law_127 rfl (lv_at hl 1 rfl) ?_
  refine cd_lawRW ⟨hx, hb, hml, hown, hts⟩ (mD_falsum l D a d n K L R kn fd Wl hu Hl hI.1) (kLD_falsum hts ⟨Nat.le_of_ble_eq_true rfl, Nat.le_of_ble_eq_true rfl⟩) rfl rfl rfl hP hQ hKD hD hS hA rfl hl.1 rfl (Nat.le_of_ble_eq_true rfl) dL_law_128 ⟨Nat.le_of_ble_eq_true rfl, Nat.le_of_ble_eq_true rfl⟩ (fun r1 u1 H locs h1 hP hQ hD hS => ?_)
  refine lv_aload_n hx hb dL_law_131 rfl (lv_at hl 2 rfl) ?_
  refine cd_lawRW ⟨hx, hb, hml, hown, hts⟩ (mM_falsum l D a2 d2 n K L R kn2 F T hI.1) (kLM_falsum hts ⟨Nat.le_of_ble_eq_true rfl, Nat.le_of_ble_eq_true rfl⟩) rfl rfl rfl hQ hP hKM (cd_swapD hD) hS hA rfl hl.1 rfl (Nat.le_of_ble_eq_true rfl) dL_law_132 ⟨Nat.le_of_ble_eq_true rfl, Nat.le_of_ble_eq_true rfl⟩ (fun r2 u2 H locs h2 hQ hP hD hS => ?_)
  obtain ⟨er, n', K', L', R', k1, k2, e1, e2, hI'⟩ := cd_pu_two hI (by decide) (by decide) (by decide) (fun h => absurd h (by decide)) h1 h2
  subst e1
  subst e2
  refine lv_icmp_eq (tgt := 446) hx hb dL_law_135 (by decide) (fun _ => ?_) (fun z => absurd er z)
  exact k n' K' L' R' k1 fd Wl hu Hl k2 F T H locs ls hI' hP hQ (cd_swapD hD) hS hl
theorem kLD_join {R0 : Room} {s : State} {args : Array Value} (hts : ∀ w ∈ lw_all, w.before args s = true) (h : (cd_rm 1).frames + 1 ≤ R0.frames ∧ 8 + (4 + 11) + (cd_rm 1).locals ≤ R0.locals) : CallW R0 s args R_law RX0 23 yX0_join cX0_join 4 (some .int) (ws_ yX0_join cX0_join 4 (some .int)) (cd_rm 1) 0 0 3 := cwV 3 hts (lw_V q77 q78 q79 q25 q80) rfl rfl rfl (by decide +kernel) h
theorem kLM_join {R0 : Room} {s : State} {args : Array Value} (hts : ∀ w ∈ lw_all, w.before args s = true) (h : (cd_rm 2).frames + 1 ≤ R0.frames ∧ 8 + (4 + 11) + (cd_rm 2).locals ≤ R0.locals) : CallW R0 s args R_law RX1 27 yX1_join cX1_join 4 (some .int) (ws_ yX1_join cX1_join 4 (some .int)) (cd_rm 2) 0 0 3 := cwV 3 hts (lw_V q219 q220 q221 q26 q222) rfl rfl rfl (by decide +kernel) h
set_option maxHeartbeats 4000000 in
set_option maxRecDepth 100000 in
/-- the law's case 2: join -/
theorem law_join {p : Program} {l : Launch} {e : Env} {s : State} {m : MethodId} {below : List Frame} {meth : Method} {c : Code} {b N : Nat} {xs : Nat → Int32} {D : va_G} {a : Nat → Nat} {d : Nat → ClassId} {a2 : Nat → Nat} {d2 : Nat → ClassId} {i : Nat} (C0 : lw_At p s m meth c b N xs) (hKD : va_K D cd_cls (cd_tD d) s) (hKM : va_K D cd_cls (cd_tM d2) s) (hN : N ≤ 256) (hi : i + 4 ≤ N) (k : cd_Cont p l e s m b below meth c D a d a2 d2 i 446) : cd_Cont p l e s m b below meth c D a d a2 d2 i 140 := by
  intro n K L R kn fd Wl hu Hl kn2 F T H locs ls hI hP hQ hD hS hl
  obtain ⟨hx, hb, hr, hml, hown, hts0, hX, hbl, hlocks, hgv⟩ := id C0
  have hts : ∀ w ∈ lw_all, w.before #[Value.ref b] s = true := fun w h => hts0 w (lw_all_tbl h)
  have hA : ∀ q : Nat, s.heap.size ≤ q → (fun q : Nat => s.heap.size ≤ q) q := fun _ h => h
  have hbA : ¬ (fun q : Nat => s.heap.size ≤ q) b := Nat.not_le.mpr hbl
  refine lv_aload_n hx hb dL_law_140 rfl (lv_at hl 1 rfl) ?_
  refine lv_aload_n hx hb dL_law_141 rfl (lv_at hl 0 rfl) ?_
  refine lv_iload_n hx hb dL_law_142 rfl (lv_at hl 3 rfl) ?_
  refine lv_iconst (v := nI 1) hx hb dL_law_143 (by decide) ?_
  refine lv_iadd hx hb dL_law_144 ?_
  refine cd_v (y := nI (i + 1)) (nI_add _ _) ?_
  refine va_sld hx hb hX hbl hbA hS (vp_in_nI (by omega) (by omega)) dL_law_145 ?_
  refine cd_v (y := xs (i + 1)) (congrArg xs (nI_clamp (by omega))) ?_
  refine lv_aload_n hx hb dL_law_146 rfl (lv_at hl 0 rfl) ?_
  refine lv_iload_n hx hb dL_law_147 rfl (lv_at hl 3 rfl) ?_
  refine lv_iconst (v := nI 2) hx hb dL_law_148 (by decide) ?_
  refine lv_iadd hx hb dL_law_149 ?_
  refine cd_v (y := nI (i + 2)) (nI_add _ _) ?_
  refine va_sld hx hb hX hbl hbA hS (vp_in_nI (by omega) (by omega)) dL_law_150 ?_
  refine cd_v (y := xs (i + 2)) (congrArg xs (nI_clamp (by omega))) ?_
  refine lv_aload_n hx hb dL_law_151 rfl (lv_at hl 0 rfl) ?_
  refine lv_iload_n hx hb dL_law_152 rfl (lv_at hl 3 rfl) ?_
  refine lv_iconst (v := nI 3) hx hb dL_law_153 (by decide) ?_
  refine lv_iadd hx hb dL_law_154 ?_
  refine cd_v (y := nI (i + 3)) (nI_add _ _) ?_
  refine va_sld hx hb hX hbl hbA hS (vp_in_nI (by omega) (by omega)) dL_law_155 ?_
  refine cd_v (y := xs (i + 3)) (congrArg xs (nI_clamp (by omega))) ?_
  refine cd_lawRW ⟨hx, hb, hml, hown, hts⟩ (mD_join l D a d n K L R kn fd Wl hu Hl (xs (i + 1)) (xs (i + 2)) (xs (i + 3)) hI.1) (kLD_join hts ⟨Nat.le_of_ble_eq_true rfl, Nat.le_of_ble_eq_true rfl⟩) rfl rfl rfl hP hQ hKD hD hS hA rfl hl.1 rfl (Nat.le_of_ble_eq_true rfl) dL_law_156 ⟨Nat.le_of_ble_eq_true rfl, Nat.le_of_ble_eq_true rfl⟩ (fun r1 u1 H locs h1 hP hQ hD hS => ?_)
  refine lv_aload_n hx hb dL_law_159 rfl (lv_at hl 2 rfl) ?_
  refine lv_aload_n hx hb dL_law_160 rfl (lv_at hl 0 rfl) ?_
  refine lv_iload_n hx hb dL_law_161 rfl (lv_at hl 3 rfl) ?_
  refine lv_iconst (v := nI 1) hx hb dL_law_162 (by decide) ?_
  refine lv_iadd hx hb dL_law_163 ?_
  refine cd_v (y := nI (i + 1)) (nI_add _ _) ?_
  refine va_sld hx hb hX hbl hbA hS (vp_in_nI (by omega) (by omega)) dL_law_164 ?_
  refine cd_v (y := xs (i + 1)) (congrArg xs (nI_clamp (by omega))) ?_
  refine lv_aload_n hx hb dL_law_165 rfl (lv_at hl 0 rfl) ?_
  refine lv_iload_n hx hb dL_law_166 rfl (lv_at hl 3 rfl) ?_
  refine lv_iconst (v := nI 2) hx hb dL_law_167 (by decide) ?_
  refine lv_iadd hx hb dL_law_168 ?_
  refine cd_v (y := nI (i + 2)) (nI_add _ _) ?_
  refine va_sld hx hb hX hbl hbA hS (vp_in_nI (by omega) (by omega)) dL_law_169 ?_
  refine cd_v (y := xs (i + 2)) (congrArg xs (nI_clamp (by omega))) ?_
  refine lv_aload_n hx hb dL_law_170 rfl (lv_at hl 0 rfl) ?_
  refine lv_iload_n hx hb dL_law_171 rfl (lv_at hl 3 rfl) ?_
  refine lv_iconst (v := nI 3) hx hb dL_law_172 (by decide) ?_
  refine lv_iadd hx hb dL_law_173 ?_
  refine cd_v (y := nI (i + 3)) (nI_add _ _) ?_
  refine va_sld hx hb hX hbl hbA hS (vp_in_nI (by omega) (by omega)) dL_law_174 ?_
  refine cd_v (y := xs (i + 3)) (congrArg xs (nI_clamp (by omega))) ?_
  refine cd_lawRW ⟨hx, hb, hml, hown, hts⟩ (mM_join l D a2 d2 n K L R kn2 F T (xs (i + 1)) (xs (i + 2)) (xs (i + 3)) hI.1) (kLM_join hts ⟨Nat.le_of_ble_eq_true rfl, Nat.le_of_ble_eq_true rfl⟩) rfl rfl rfl hQ hP hKM (cd_swapD hD) hS hA rfl hl.1 rfl (Nat.le_of_ble_eq_true rfl) dL_law_175 ⟨Nat.le_of_ble_eq_true rfl, Nat.le_of_ble_eq_true rfl⟩ (fun r2 u2 H locs h2 hQ hP hD hS => ?_)
  obtain ⟨er, n', K', L', R', k1, k2, e1, e2, hI'⟩ := cd_jo_two hI h1 h2
  subst e1
  subst e2
  refine lv_icmp_eq (tgt := 446) hx hb dL_law_178 (by decide) (fun _ => ?_) (fun z => absurd er z)
  exact k n' K' L' R' k1 fd Wl hu Hl k2 F T H locs ls hI' hP hQ (cd_swapD hD) hS hl
theorem kLD_drop {R0 : Room} {s : State} {args : Array Value} (hts : ∀ w ∈ lw_all, w.before args s = true) (h : (cd_rm 0).frames + 1 ≤ R0.frames ∧ 8 + (1 + 11) + (cd_rm 0).locals ≤ R0.locals) : CallW R0 s args R_law RX0 28 yX0_drop cX0_drop 1 (some .int) (ws_ yX0_drop cX0_drop 1 (some .int)) (cd_rm 0) 0 0 0 := cwV 0 hts (lw_V q85 q86 q87 q25 q88) rfl rfl rfl (by decide +kernel) h
theorem kLM_drop {R0 : Room} {s : State} {args : Array Value} (hts : ∀ w ∈ lw_all, w.before args s = true) (h : (cd_rm 0).frames + 1 ≤ R0.frames ∧ 8 + (1 + 11) + (cd_rm 0).locals ≤ R0.locals) : CallW R0 s args R_law RX1 31 yX1_drop cX1_drop 1 (some .int) (ws_ yX1_drop cX1_drop 1 (some .int)) (cd_rm 0) 0 0 0 := cwV 0 hts (lw_V q227 q228 q229 q26 q230) rfl rfl rfl (by decide +kernel) h
set_option maxHeartbeats 4000000 in
set_option maxRecDepth 100000 in
/-- the law's case 3: drop -/
theorem law_drop {p : Program} {l : Launch} {e : Env} {s : State} {m : MethodId} {below : List Frame} {meth : Method} {c : Code} {b N : Nat} {xs : Nat → Int32} {D : va_G} {a : Nat → Nat} {d : Nat → ClassId} {a2 : Nat → Nat} {d2 : Nat → ClassId} {i : Nat} (C0 : lw_At p s m meth c b N xs) (hKD : va_K D cd_cls (cd_tD d) s) (hKM : va_K D cd_cls (cd_tM d2) s) (hN : N ≤ 256) (hi : i + 4 ≤ N) (k : cd_Cont p l e s m b below meth c D a d a2 d2 i 446) : cd_Cont p l e s m b below meth c D a d a2 d2 i 183 := by
  intro n K L R kn fd Wl hu Hl kn2 F T H locs ls hI hP hQ hD hS hl
  obtain ⟨hx, hb, hr, hml, hown, hts0, hX, hbl, hlocks, hgv⟩ := id C0
  have hts : ∀ w ∈ lw_all, w.before #[Value.ref b] s = true := fun w h => hts0 w (lw_all_tbl h)
  have hA : ∀ q : Nat, s.heap.size ≤ q → (fun q : Nat => s.heap.size ≤ q) q := fun _ h => h
  have hbA : ¬ (fun q : Nat => s.heap.size ≤ q) b := Nat.not_le.mpr hbl
  refine lv_aload_n hx hb dL_law_183 rfl (lv_at hl 1 rfl) ?_
  refine cd_lawRW ⟨hx, hb, hml, hown, hts⟩ (mD_drop l D a d n K L R kn fd Wl hu Hl hI.1.1) (kLD_drop hts ⟨Nat.le_of_ble_eq_true rfl, Nat.le_of_ble_eq_true rfl⟩) rfl rfl rfl hP hQ hKD hD hS hA rfl hl.1 rfl (Nat.le_of_ble_eq_true rfl) dL_law_184 ⟨Nat.le_of_ble_eq_true rfl, Nat.le_of_ble_eq_true rfl⟩ (fun r1 u1 H locs h1 hP hQ hD hS => ?_)
  refine lv_aload_n hx hb dL_law_187 rfl (lv_at hl 2 rfl) ?_
  refine cd_lawRW ⟨hx, hb, hml, hown, hts⟩ (mM_drop l D a2 d2 n K L R kn2 F T hI.1.1) (kLM_drop hts ⟨Nat.le_of_ble_eq_true rfl, Nat.le_of_ble_eq_true rfl⟩) rfl rfl rfl hQ hP hKM (cd_swapD hD) hS hA rfl hl.1 rfl (Nat.le_of_ble_eq_true rfl) dL_law_188 ⟨Nat.le_of_ble_eq_true rfl, Nat.le_of_ble_eq_true rfl⟩ (fun r2 u2 H locs h2 hQ hP hD hS => ?_)
  obtain ⟨er, n', K', L', R', k1, k2, e1, e2, hI'⟩ := cd_dr_two hI h1 h2
  subst e1
  subst e2
  refine lv_icmp_eq (tgt := 446) hx hb dL_law_191 (by decide) (fun _ => ?_) (fun z => absurd er z)
  exact k n' K' L' R' k1 fd Wl hu Hl k2 F T H locs ls hI' hP hQ (cd_swapD hD) hS hl
theorem kLD_size {R0 : Room} {s : State} {args : Array Value} (hts : ∀ w ∈ lw_all, w.before args s = true) (h : (cd_rm 0).frames + 1 ≤ R0.frames ∧ 8 + (1 + 11) + (cd_rm 0).locals ≤ R0.locals) : CallW R0 s args R_law RX0 32 yX0_size cX0_size 1 (some .int) (ws_ yX0_size cX0_size 1 (some .int)) (cd_rm 0) 0 0 0 := cwV 0 hts (lw_V q89 q90 q91 q25 q92) rfl rfl rfl (by decide +kernel) h
theorem kLM_size {R0 : Room} {s : State} {args : Array Value} (hts : ∀ w ∈ lw_all, w.before args s = true) (h : (cd_rm 0).frames + 1 ≤ R0.frames ∧ 8 + (1 + 11) + (cd_rm 0).locals ≤ R0.locals) : CallW R0 s args R_law RX1 35 yX1_size cX1_size 1 (some .int) (ws_ yX1_size cX1_size 1 (some .int)) (cd_rm 0) 0 0 0 := cwV 0 hts (lw_V q231 q232 q233 q26 q234) rfl rfl rfl (by decide +kernel) h
set_option maxHeartbeats 4000000 in
set_option maxRecDepth 100000 in
/-- the law's case 4: size -/
theorem law_size {p : Program} {l : Launch} {e : Env} {s : State} {m : MethodId} {below : List Frame} {meth : Method} {c : Code} {b N : Nat} {xs : Nat → Int32} {D : va_G} {a : Nat → Nat} {d : Nat → ClassId} {a2 : Nat → Nat} {d2 : Nat → ClassId} {i : Nat} (C0 : lw_At p s m meth c b N xs) (hKD : va_K D cd_cls (cd_tD d) s) (hKM : va_K D cd_cls (cd_tM d2) s) (hN : N ≤ 256) (hi : i + 4 ≤ N) (k : cd_Cont p l e s m b below meth c D a d a2 d2 i 446) : cd_Cont p l e s m b below meth c D a d a2 d2 i 196 := by
  intro n K L R kn fd Wl hu Hl kn2 F T H locs ls hI hP hQ hD hS hl
  obtain ⟨hx, hb, hr, hml, hown, hts0, hX, hbl, hlocks, hgv⟩ := id C0
  have hts : ∀ w ∈ lw_all, w.before #[Value.ref b] s = true := fun w h => hts0 w (lw_all_tbl h)
  have hA : ∀ q : Nat, s.heap.size ≤ q → (fun q : Nat => s.heap.size ≤ q) q := fun _ h => h
  have hbA : ¬ (fun q : Nat => s.heap.size ≤ q) b := Nat.not_le.mpr hbl
  refine lv_aload_n hx hb dL_law_196 rfl (lv_at hl 1 rfl) ?_
  refine cd_callRO ⟨hx, hb, hml, hown, hts⟩ (mD_size l D a d n K L R kn fd Wl hu Hl) (kLD_size hts ⟨Nat.le_of_ble_eq_true rfl, Nat.le_of_ble_eq_true rfl⟩) rfl rfl rfl hP hKD rfl hl.1 rfl (Nat.le_of_ble_eq_true rfl) dL_law_197 ⟨Nat.le_of_ble_eq_true rfl, Nat.le_of_ble_eq_true rfl⟩ ?_
  refine lv_aload_n hx hb dL_law_200 rfl (lv_at hl 2 rfl) ?_
  refine cd_callRO ⟨hx, hb, hml, hown, hts⟩ (mM_size l D a2 d2 n K L R kn2 F T) (kLM_size hts ⟨Nat.le_of_ble_eq_true rfl, Nat.le_of_ble_eq_true rfl⟩) rfl rfl rfl hQ hKM rfl hl.1 rfl (Nat.le_of_ble_eq_true rfl) dL_law_201 ⟨Nat.le_of_ble_eq_true rfl, Nat.le_of_ble_eq_true rfl⟩ ?_
  have er : nI n = nI n := rfl
  refine lv_icmp_eq (tgt := 446) hx hb dL_law_204 (by decide) (fun _ => ?_) (fun z => absurd er z)
  exact k n K L R kn fd Wl hu Hl kn2 F T H locs ls hI hP hQ hD hS hl
theorem kLD_follows {R0 : Room} {s : State} {args : Array Value} (hts : ∀ w ∈ lw_all, w.before args s = true) (h : (cd_rm 4).frames + 1 ≤ R0.frames ∧ 8 + (5 + 11) + (cd_rm 4).locals ≤ R0.locals) : CallW R0 s args R_law RX0 36 yX0_follows cX0_follows 5 (some .int) (ws_ yX0_follows cX0_follows 5 (some .int)) (cd_rm 4) 0 0 2 := cwV 2 hts (lw_V q93 q94 q95 q25 q96) rfl rfl rfl (by decide +kernel) h
theorem kLM_follows {R0 : Room} {s : State} {args : Array Value} (hts : ∀ w ∈ lw_all, w.before args s = true) (h : (cd_rm 5).frames + 1 ≤ R0.frames ∧ 8 + (4 + 11) + (cd_rm 5).locals ≤ R0.locals) : CallW R0 s args R_law RX1 40 yX1_follows cX1_follows 4 (some .int) (ws_ yX1_follows cX1_follows 4 (some .int)) (cd_rm 5) 0 0 2 := cwV 2 hts (lw_V q235 q236 q237 q26 q238) rfl rfl rfl (by decide +kernel) h
set_option maxHeartbeats 4000000 in
set_option maxRecDepth 100000 in
/-- the law's case 5: follows -/
theorem law_follows {p : Program} {l : Launch} {e : Env} {s : State} {m : MethodId} {below : List Frame} {meth : Method} {c : Code} {b N : Nat} {xs : Nat → Int32} {D : va_G} {a : Nat → Nat} {d : Nat → ClassId} {a2 : Nat → Nat} {d2 : Nat → ClassId} {i : Nat} (C0 : lw_At p s m meth c b N xs) (hKD : va_K D cd_cls (cd_tD d) s) (hKM : va_K D cd_cls (cd_tM d2) s) (hN : N ≤ 256) (hi : i + 4 ≤ N) (k : cd_Cont p l e s m b below meth c D a d a2 d2 i 446) : cd_Cont p l e s m b below meth c D a d a2 d2 i 209 := by
  intro n K L R kn fd Wl hu Hl kn2 F T H locs ls hI hP hQ hD hS hl
  obtain ⟨hx, hb, hr, hml, hown, hts0, hX, hbl, hlocks, hgv⟩ := id C0
  have hts : ∀ w ∈ lw_all, w.before #[Value.ref b] s = true := fun w h => hts0 w (lw_all_tbl h)
  have hA : ∀ q : Nat, s.heap.size ≤ q → (fun q : Nat => s.heap.size ≤ q) q := fun _ h => h
  have hbA : ¬ (fun q : Nat => s.heap.size ≤ q) b := Nat.not_le.mpr hbl
  refine lv_aload_n hx hb dL_law_209 rfl (lv_at hl 1 rfl) ?_
  refine lv_aload_n hx hb dL_law_210 rfl (lv_at hl 0 rfl) ?_
  refine lv_iload_n hx hb dL_law_211 rfl (lv_at hl 3 rfl) ?_
  refine lv_iconst (v := nI 1) hx hb dL_law_212 (by decide) ?_
  refine lv_iadd hx hb dL_law_213 ?_
  refine cd_v (y := nI (i + 1)) (nI_add _ _) ?_
  refine va_sld hx hb hX hbl hbA hS (vp_in_nI (by omega) (by omega)) dL_law_214 ?_
  refine cd_v (y := xs (i + 1)) (congrArg xs (nI_clamp (by omega))) ?_
  refine lv_aload_n hx hb dL_law_215 rfl (lv_at hl 0 rfl) ?_
  refine lv_iload_n hx hb dL_law_216 rfl (lv_at hl 3 rfl) ?_
  refine lv_iconst (v := nI 2) hx hb dL_law_217 (by decide) ?_
  refine lv_iadd hx hb dL_law_218 ?_
  refine cd_v (y := nI (i + 2)) (nI_add _ _) ?_
  refine va_sld hx hb hX hbl hbA hS (vp_in_nI (by omega) (by omega)) dL_law_219 ?_
  refine cd_v (y := xs (i + 2)) (congrArg xs (nI_clamp (by omega))) ?_
  refine cd_lawRW ⟨hx, hb, hml, hown, hts⟩ (mD_follows l D a d n K L R kn fd Wl hu Hl (xs (i + 1)) (xs (i + 2)) hI.1 hI.2.1) (kLD_follows hts ⟨Nat.le_of_ble_eq_true rfl, Nat.le_of_ble_eq_true rfl⟩) rfl rfl rfl hP hQ hKD hD hS hA rfl hl.1 rfl (Nat.le_of_ble_eq_true rfl) dL_law_220 ⟨Nat.le_of_ble_eq_true rfl, Nat.le_of_ble_eq_true rfl⟩ (fun r1 u1 H locs h1 hP hQ hD hS => ?_)
  refine lv_aload_n hx hb dL_law_223 rfl (lv_at hl 2 rfl) ?_
  refine lv_aload_n hx hb dL_law_224 rfl (lv_at hl 0 rfl) ?_
  refine lv_iload_n hx hb dL_law_225 rfl (lv_at hl 3 rfl) ?_
  refine lv_iconst (v := nI 1) hx hb dL_law_226 (by decide) ?_
  refine lv_iadd hx hb dL_law_227 ?_
  refine cd_v (y := nI (i + 1)) (nI_add _ _) ?_
  refine va_sld hx hb hX hbl hbA hS (vp_in_nI (by omega) (by omega)) dL_law_228 ?_
  refine cd_v (y := xs (i + 1)) (congrArg xs (nI_clamp (by omega))) ?_
  refine lv_aload_n hx hb dL_law_229 rfl (lv_at hl 0 rfl) ?_
  refine lv_iload_n hx hb dL_law_230 rfl (lv_at hl 3 rfl) ?_
  refine lv_iconst (v := nI 2) hx hb dL_law_231 (by decide) ?_
  refine lv_iadd hx hb dL_law_232 ?_
  refine cd_v (y := nI (i + 2)) (nI_add _ _) ?_
  refine va_sld hx hb hX hbl hbA hS (vp_in_nI (by omega) (by omega)) dL_law_233 ?_
  refine cd_v (y := xs (i + 2)) (congrArg xs (nI_clamp (by omega))) ?_
  refine cd_lawRW ⟨hx, hb, hml, hown, hts⟩ (mM_follows l D a2 d2 n K L R kn2 F T (xs (i + 1)) (xs (i + 2)) hI.1 hI.2.2) (kLM_follows hts ⟨Nat.le_of_ble_eq_true rfl, Nat.le_of_ble_eq_true rfl⟩) rfl rfl rfl hQ hP hKM (cd_swapD hD) hS hA rfl hl.1 rfl (Nat.le_of_ble_eq_true rfl) dL_law_234 ⟨Nat.le_of_ble_eq_true rfl, Nat.le_of_ble_eq_true rfl⟩ (fun r2 u2 H locs h2 hQ hP hD hS => ?_)
  obtain ⟨g1, w1⟩ := h1
  obtain ⟨g2, w2⟩ := h2
  obtain ⟨kn', fd', Wl', hu', Hl'⟩ := u1
  obtain ⟨k2', F'⟩ := u2
  have er : r1 = r2 := Eq.trans g1 (Eq.symm g2)
  refine lv_icmp_eq (tgt := 446) hx hb dL_law_237 (by decide) (fun _ => ?_) (fun z => absurd er z)
  exact k n K L R kn' fd' Wl' hu' Hl' k2' F' T H locs ls ⟨hI.1, w1, w2⟩ hP hQ (cd_swapD hD) hS hl
theorem kLD_all {R0 : Room} {s : State} {args : Array Value} (hts : ∀ w ∈ lw_all, w.before args s = true) (h : (cd_rm 4).frames + 1 ≤ R0.frames ∧ 8 + (3 + 11) + (cd_rm 4).locals ≤ R0.locals) : CallW R0 s args R_law RX0 41 yX0_all cX0_all 3 (some .int) (ws_ yX0_all cX0_all 3 (some .int)) (cd_rm 4) 0 0 1 := cwV 1 hts (lw_V q125 q126 q127 q25 q128) rfl rfl rfl (by decide +kernel) h
theorem kLM_all {R0 : Room} {s : State} {args : Array Value} (hts : ∀ w ∈ lw_all, w.before args s = true) (h : (cd_rm 5).frames + 1 ≤ R0.frames ∧ 8 + (3 + 11) + (cd_rm 5).locals ≤ R0.locals) : CallW R0 s args R_law RX1 44 yX1_all cX1_all 3 (some .int) (ws_ yX1_all cX1_all 3 (some .int)) (cd_rm 5) 0 0 1 := cwV 1 hts (lw_V q259 q260 q261 q26 q262) rfl rfl rfl (by decide +kernel) h
set_option maxHeartbeats 4000000 in
set_option maxRecDepth 100000 in
/-- the law's case 6: all -/
theorem law_all {p : Program} {l : Launch} {e : Env} {s : State} {m : MethodId} {below : List Frame} {meth : Method} {c : Code} {b N : Nat} {xs : Nat → Int32} {D : va_G} {a : Nat → Nat} {d : Nat → ClassId} {a2 : Nat → Nat} {d2 : Nat → ClassId} {i : Nat} (C0 : lw_At p s m meth c b N xs) (hKD : va_K D cd_cls (cd_tD d) s) (hKM : va_K D cd_cls (cd_tM d2) s) (hN : N ≤ 256) (hi : i + 4 ≤ N) (k : cd_Cont p l e s m b below meth c D a d a2 d2 i 446) : cd_Cont p l e s m b below meth c D a d a2 d2 i 242 := by
  intro n K L R kn fd Wl hu Hl kn2 F T H locs ls hI hP hQ hD hS hl
  obtain ⟨hx, hb, hr, hml, hown, hts0, hX, hbl, hlocks, hgv⟩ := id C0
  have hts : ∀ w ∈ lw_all, w.before #[Value.ref b] s = true := fun w h => hts0 w (lw_all_tbl h)
  have hA : ∀ q : Nat, s.heap.size ≤ q → (fun q : Nat => s.heap.size ≤ q) q := fun _ h => h
  have hbA : ¬ (fun q : Nat => s.heap.size ≤ q) b := Nat.not_le.mpr hbl
  refine lv_aload_n hx hb dL_law_242 rfl (lv_at hl 1 rfl) ?_
  refine lv_aload_n hx hb dL_law_243 rfl (lv_at hl 0 rfl) ?_
  refine lv_iload_n hx hb dL_law_244 rfl (lv_at hl 3 rfl) ?_
  refine lv_iconst (v := nI 1) hx hb dL_law_245 (by decide) ?_
  refine lv_iadd hx hb dL_law_246 ?_
  refine cd_v (y := nI (i + 1)) (nI_add _ _) ?_
  refine va_sld hx hb hX hbl hbA hS (vp_in_nI (by omega) (by omega)) dL_law_247 ?_
  refine cd_v (y := xs (i + 1)) (congrArg xs (nI_clamp (by omega))) ?_
  refine cd_lawRW ⟨hx, hb, hml, hown, hts⟩ (mD_all l D a d n K L R kn fd Wl hu Hl (xs (i + 1)) hI.1 hI.2.1) (kLD_all hts ⟨Nat.le_of_ble_eq_true rfl, Nat.le_of_ble_eq_true rfl⟩) rfl rfl rfl hP hQ hKD hD hS hA rfl hl.1 rfl (Nat.le_of_ble_eq_true rfl) dL_law_248 ⟨Nat.le_of_ble_eq_true rfl, Nat.le_of_ble_eq_true rfl⟩ (fun r1 u1 H locs h1 hP hQ hD hS => ?_)
  refine lv_aload_n hx hb dL_law_251 rfl (lv_at hl 2 rfl) ?_
  refine lv_aload_n hx hb dL_law_252 rfl (lv_at hl 0 rfl) ?_
  refine lv_iload_n hx hb dL_law_253 rfl (lv_at hl 3 rfl) ?_
  refine lv_iconst (v := nI 1) hx hb dL_law_254 (by decide) ?_
  refine lv_iadd hx hb dL_law_255 ?_
  refine cd_v (y := nI (i + 1)) (nI_add _ _) ?_
  refine va_sld hx hb hX hbl hbA hS (vp_in_nI (by omega) (by omega)) dL_law_256 ?_
  refine cd_v (y := xs (i + 1)) (congrArg xs (nI_clamp (by omega))) ?_
  refine cd_lawRW ⟨hx, hb, hml, hown, hts⟩ (mM_all l D a2 d2 n K L R kn2 F T (xs (i + 1)) hI.1 hI.2.2) (kLM_all hts ⟨Nat.le_of_ble_eq_true rfl, Nat.le_of_ble_eq_true rfl⟩) rfl rfl rfl hQ hP hKM (cd_swapD hD) hS hA rfl hl.1 rfl (Nat.le_of_ble_eq_true rfl) dL_law_257 ⟨Nat.le_of_ble_eq_true rfl, Nat.le_of_ble_eq_true rfl⟩ (fun r2 u2 H locs h2 hQ hP hD hS => ?_)
  obtain ⟨g1, w1⟩ := h1
  obtain ⟨g2, w2⟩ := h2
  obtain ⟨kn', fd', Wl', hu', Hl'⟩ := u1
  obtain ⟨k2', F'⟩ := u2
  have er : r1 = r2 := Eq.trans g1 (Eq.symm g2)
  refine lv_icmp_eq (tgt := 446) hx hb dL_law_260 (by decide) (fun _ => ?_) (fun z => absurd er z)
  exact k n K L R kn' fd' Wl' hu' Hl' k2' F' T H locs ls ⟨hI.1, w1, w2⟩ hP hQ (cd_swapD hD) hS hl
theorem kLD_classically {R0 : Room} {s : State} {args : Array Value} (hts : ∀ w ∈ lw_all, w.before args s = true) (h : (cd_rm 2).frames + 1 ≤ R0.frames ∧ 8 + (7 + 11) + (cd_rm 2).locals ≤ R0.locals) : CallW R0 s args R_law RX0 45 yX0_classically cX0_classically 7 (some .int) (ws_ yX0_classically cX0_classically 7 (some .int)) (cd_rm 2) 0 0 2 := cwV 2 hts (lw_V q129 q130 q131 q25 q132) rfl rfl rfl (by decide +kernel) h
theorem kLM_classically {R0 : Room} {s : State} {args : Array Value} (hts : ∀ w ∈ lw_all, w.before args s = true) (h : (cd_rm 2).frames + 1 ≤ R0.frames ∧ 8 + (6 + 11) + (cd_rm 2).locals ≤ R0.locals) : CallW R0 s args R_law RX1 48 yX1_classically cX1_classically 6 (some .int) (ws_ yX1_classically cX1_classically 6 (some .int)) (cd_rm 2) 0 0 2 := cwV 2 hts (lw_V q263 q264 q265 q26 q266) rfl rfl rfl (by decide +kernel) h
set_option maxHeartbeats 4000000 in
set_option maxRecDepth 100000 in
/-- the law's case 7: classically -/
theorem law_classically {p : Program} {l : Launch} {e : Env} {s : State} {m : MethodId} {below : List Frame} {meth : Method} {c : Code} {b N : Nat} {xs : Nat → Int32} {D : va_G} {a : Nat → Nat} {d : Nat → ClassId} {a2 : Nat → Nat} {d2 : Nat → ClassId} {i : Nat} (C0 : lw_At p s m meth c b N xs) (hKD : va_K D cd_cls (cd_tD d) s) (hKM : va_K D cd_cls (cd_tM d2) s) (hN : N ≤ 256) (hi : i + 4 ≤ N) (k : cd_Cont p l e s m b below meth c D a d a2 d2 i 446) : cd_Cont p l e s m b below meth c D a d a2 d2 i 265 := by
  intro n K L R kn fd Wl hu Hl kn2 F T H locs ls hI hP hQ hD hS hl
  obtain ⟨hx, hb, hr, hml, hown, hts0, hX, hbl, hlocks, hgv⟩ := id C0
  have hts : ∀ w ∈ lw_all, w.before #[Value.ref b] s = true := fun w h => hts0 w (lw_all_tbl h)
  have hA : ∀ q : Nat, s.heap.size ≤ q → (fun q : Nat => s.heap.size ≤ q) q := fun _ h => h
  have hbA : ¬ (fun q : Nat => s.heap.size ≤ q) b := Nat.not_le.mpr hbl
  refine lv_aload_n hx hb dL_law_265 rfl (lv_at hl 1 rfl) ?_
  refine lv_aload_n hx hb dL_law_266 rfl (lv_at hl 0 rfl) ?_
  refine lv_iload_n hx hb dL_law_267 rfl (lv_at hl 3 rfl) ?_
  refine lv_iconst (v := nI 1) hx hb dL_law_268 (by decide) ?_
  refine lv_iadd hx hb dL_law_269 ?_
  refine cd_v (y := nI (i + 1)) (nI_add _ _) ?_
  refine va_sld hx hb hX hbl hbA hS (vp_in_nI (by omega) (by omega)) dL_law_270 ?_
  refine cd_v (y := xs (i + 1)) (congrArg xs (nI_clamp (by omega))) ?_
  refine lv_aload_n hx hb dL_law_271 rfl (lv_at hl 0 rfl) ?_
  refine lv_iload_n hx hb dL_law_272 rfl (lv_at hl 3 rfl) ?_
  refine lv_iconst (v := nI 2) hx hb dL_law_273 (by decide) ?_
  refine lv_iadd hx hb dL_law_274 ?_
  refine cd_v (y := nI (i + 2)) (nI_add _ _) ?_
  refine va_sld hx hb hX hbl hbA hS (vp_in_nI (by omega) (by omega)) dL_law_275 ?_
  refine cd_v (y := xs (i + 2)) (congrArg xs (nI_clamp (by omega))) ?_
  refine cd_callRO ⟨hx, hb, hml, hown, hts⟩ (mD_classically l D a d n K L R kn fd Wl hu Hl (xs (i + 1)) (xs (i + 2)) hI.1) (kLD_classically hts ⟨Nat.le_of_ble_eq_true rfl, Nat.le_of_ble_eq_true rfl⟩) rfl rfl rfl hP hKD rfl hl.1 rfl (Nat.le_of_ble_eq_true rfl) dL_law_276 ⟨Nat.le_of_ble_eq_true rfl, Nat.le_of_ble_eq_true rfl⟩ ?_
  refine lv_aload_n hx hb dL_law_279 rfl (lv_at hl 2 rfl) ?_
  refine lv_aload_n hx hb dL_law_280 rfl (lv_at hl 0 rfl) ?_
  refine lv_iload_n hx hb dL_law_281 rfl (lv_at hl 3 rfl) ?_
  refine lv_iconst (v := nI 1) hx hb dL_law_282 (by decide) ?_
  refine lv_iadd hx hb dL_law_283 ?_
  refine cd_v (y := nI (i + 1)) (nI_add _ _) ?_
  refine va_sld hx hb hX hbl hbA hS (vp_in_nI (by omega) (by omega)) dL_law_284 ?_
  refine cd_v (y := xs (i + 1)) (congrArg xs (nI_clamp (by omega))) ?_
  refine lv_aload_n hx hb dL_law_285 rfl (lv_at hl 0 rfl) ?_
  refine lv_iload_n hx hb dL_law_286 rfl (lv_at hl 3 rfl) ?_
  refine lv_iconst (v := nI 2) hx hb dL_law_287 (by decide) ?_
  refine lv_iadd hx hb dL_law_288 ?_
  refine cd_v (y := nI (i + 2)) (nI_add _ _) ?_
  refine va_sld hx hb hX hbl hbA hS (vp_in_nI (by omega) (by omega)) dL_law_289 ?_
  refine cd_v (y := xs (i + 2)) (congrArg xs (nI_clamp (by omega))) ?_
  refine cd_lawRW ⟨hx, hb, hml, hown, hts⟩ (mM_classically l D a2 d2 n K L R kn2 F T (xs (i + 1)) (xs (i + 2)) hI.1) (kLM_classically hts ⟨Nat.le_of_ble_eq_true rfl, Nat.le_of_ble_eq_true rfl⟩) rfl rfl rfl hQ hP hKM (cd_swapD hD) hS hA rfl hl.1 rfl (Nat.le_of_ble_eq_true rfl) dL_law_290 ⟨Nat.le_of_ble_eq_true rfl, Nat.le_of_ble_eq_true rfl⟩ (fun r2 u2 H locs h2 hQ hP hD hS => ?_)
  have er := Eq.symm h2
  refine lv_icmp_eq (tgt := 446) hx hb dL_law_293 (by decide) (fun _ => ?_) (fun z => absurd er z)
  exact k n K L R kn fd Wl hu Hl kn2 F u2 H locs ls hI hP hQ (cd_swapD hD) hS hl
theorem kLD_alike {R0 : Room} {s : State} {args : Array Value} (hts : ∀ w ∈ lw_all, w.before args s = true) (h : (cd_rm 4).frames + 1 ≤ R0.frames ∧ 8 + (5 + 11) + (cd_rm 4).locals ≤ R0.locals) : CallW R0 s args R_law RX0 49 yX0_alike cX0_alike 5 (some .int) (ws_ yX0_alike cX0_alike 5 (some .int)) (cd_rm 4) 0 0 2 := cwV 2 hts (lw_V q137 q138 q139 q25 q140) rfl rfl rfl (by decide +kernel) h
theorem kLM_alike {R0 : Room} {s : State} {args : Array Value} (hts : ∀ w ∈ lw_all, w.before args s = true) (h : (cd_rm 5).frames + 1 ≤ R0.frames ∧ 8 + (3 + 11) + (cd_rm 5).locals ≤ R0.locals) : CallW R0 s args R_law RX1 52 yX1_alike cX1_alike 3 (some .int) (ws_ yX1_alike cX1_alike 3 (some .int)) (cd_rm 5) 0 0 2 := cwV 2 hts (lw_V q271 q272 q273 q26 q274) rfl rfl rfl (by decide +kernel) h
set_option maxHeartbeats 4000000 in
set_option maxRecDepth 100000 in
/-- the law's case 8: alike -/
theorem law_alike {p : Program} {l : Launch} {e : Env} {s : State} {m : MethodId} {below : List Frame} {meth : Method} {c : Code} {b N : Nat} {xs : Nat → Int32} {D : va_G} {a : Nat → Nat} {d : Nat → ClassId} {a2 : Nat → Nat} {d2 : Nat → ClassId} {i : Nat} (C0 : lw_At p s m meth c b N xs) (hKD : va_K D cd_cls (cd_tD d) s) (hKM : va_K D cd_cls (cd_tM d2) s) (hN : N ≤ 256) (hi : i + 4 ≤ N) (k : cd_Cont p l e s m b below meth c D a d a2 d2 i 446) : cd_Cont p l e s m b below meth c D a d a2 d2 i 298 := by
  intro n K L R kn fd Wl hu Hl kn2 F T H locs ls hI hP hQ hD hS hl
  obtain ⟨hx, hb, hr, hml, hown, hts0, hX, hbl, hlocks, hgv⟩ := id C0
  have hts : ∀ w ∈ lw_all, w.before #[Value.ref b] s = true := fun w h => hts0 w (lw_all_tbl h)
  have hA : ∀ q : Nat, s.heap.size ≤ q → (fun q : Nat => s.heap.size ≤ q) q := fun _ h => h
  have hbA : ¬ (fun q : Nat => s.heap.size ≤ q) b := Nat.not_le.mpr hbl
  refine lv_aload_n hx hb dL_law_298 rfl (lv_at hl 1 rfl) ?_
  refine lv_aload_n hx hb dL_law_299 rfl (lv_at hl 0 rfl) ?_
  refine lv_iload_n hx hb dL_law_300 rfl (lv_at hl 3 rfl) ?_
  refine lv_iconst (v := nI 1) hx hb dL_law_301 (by decide) ?_
  refine lv_iadd hx hb dL_law_302 ?_
  refine cd_v (y := nI (i + 1)) (nI_add _ _) ?_
  refine va_sld hx hb hX hbl hbA hS (vp_in_nI (by omega) (by omega)) dL_law_303 ?_
  refine cd_v (y := xs (i + 1)) (congrArg xs (nI_clamp (by omega))) ?_
  refine lv_aload_n hx hb dL_law_304 rfl (lv_at hl 0 rfl) ?_
  refine lv_iload_n hx hb dL_law_305 rfl (lv_at hl 3 rfl) ?_
  refine lv_iconst (v := nI 2) hx hb dL_law_306 (by decide) ?_
  refine lv_iadd hx hb dL_law_307 ?_
  refine cd_v (y := nI (i + 2)) (nI_add _ _) ?_
  refine va_sld hx hb hX hbl hbA hS (vp_in_nI (by omega) (by omega)) dL_law_308 ?_
  refine cd_v (y := xs (i + 2)) (congrArg xs (nI_clamp (by omega))) ?_
  refine cd_lawRW ⟨hx, hb, hml, hown, hts⟩ (mD_alike l D a d n K L R kn fd Wl hu Hl (xs (i + 1)) (xs (i + 2)) hI.1 hI.2.1) (kLD_alike hts ⟨Nat.le_of_ble_eq_true rfl, Nat.le_of_ble_eq_true rfl⟩) rfl rfl rfl hP hQ hKD hD hS hA rfl hl.1 rfl (Nat.le_of_ble_eq_true rfl) dL_law_309 ⟨Nat.le_of_ble_eq_true rfl, Nat.le_of_ble_eq_true rfl⟩ (fun r1 u1 H locs h1 hP hQ hD hS => ?_)
  refine lv_aload_n hx hb dL_law_312 rfl (lv_at hl 2 rfl) ?_
  refine lv_aload_n hx hb dL_law_313 rfl (lv_at hl 0 rfl) ?_
  refine lv_iload_n hx hb dL_law_314 rfl (lv_at hl 3 rfl) ?_
  refine lv_iconst (v := nI 1) hx hb dL_law_315 (by decide) ?_
  refine lv_iadd hx hb dL_law_316 ?_
  refine cd_v (y := nI (i + 1)) (nI_add _ _) ?_
  refine va_sld hx hb hX hbl hbA hS (vp_in_nI (by omega) (by omega)) dL_law_317 ?_
  refine cd_v (y := xs (i + 1)) (congrArg xs (nI_clamp (by omega))) ?_
  refine lv_aload_n hx hb dL_law_318 rfl (lv_at hl 0 rfl) ?_
  refine lv_iload_n hx hb dL_law_319 rfl (lv_at hl 3 rfl) ?_
  refine lv_iconst (v := nI 2) hx hb dL_law_320 (by decide) ?_
  refine lv_iadd hx hb dL_law_321 ?_
  refine cd_v (y := nI (i + 2)) (nI_add _ _) ?_
  refine va_sld hx hb hX hbl hbA hS (vp_in_nI (by omega) (by omega)) dL_law_322 ?_
  refine cd_v (y := xs (i + 2)) (congrArg xs (nI_clamp (by omega))) ?_
  refine cd_lawRW ⟨hx, hb, hml, hown, hts⟩ (mM_alike l D a2 d2 n K L R kn2 F T (xs (i + 1)) (xs (i + 2)) hI.1 hI.2.2) (kLM_alike hts ⟨Nat.le_of_ble_eq_true rfl, Nat.le_of_ble_eq_true rfl⟩) rfl rfl rfl hQ hP hKM (cd_swapD hD) hS hA rfl hl.1 rfl (Nat.le_of_ble_eq_true rfl) dL_law_323 ⟨Nat.le_of_ble_eq_true rfl, Nat.le_of_ble_eq_true rfl⟩ (fun r2 u2 H locs h2 hQ hP hD hS => ?_)
  obtain ⟨g1, w1⟩ := h1
  obtain ⟨g2, w2⟩ := h2
  obtain ⟨kn', fd', Wl', hu', Hl'⟩ := u1
  obtain ⟨k2', F'⟩ := u2
  have er : r1 = r2 := cd_al_one hI.1.1 g1 g2
  refine lv_icmp_eq (tgt := 446) hx hb dL_law_326 (by decide) (fun _ => ?_) (fun z => absurd er z)
  exact k n K L R kn' fd' Wl' hu' Hl' k2' F' T H locs ls ⟨hI.1, w1, w2⟩ hP hQ (cd_swapD hD) hS hl
theorem kLD_enough {R0 : Room} {s : State} {args : Array Value} (hts : ∀ w ∈ lw_all, w.before args s = true) (h : (cd_rm 4).frames + 1 ≤ R0.frames ∧ 8 + (9 + 11) + (cd_rm 4).locals ≤ R0.locals) : CallW R0 s args R_law RX0 53 yX0_enough cX0_enough 9 (some .int) (ws_ yX0_enough cX0_enough 9 (some .int)) (cd_rm 4) 0 0 2 := cwV 2 hts (lw_V q141 q142 q143 q25 q144) rfl rfl rfl (by decide +kernel) h
theorem kLM_enough {R0 : Room} {s : State} {args : Array Value} (hts : ∀ w ∈ lw_all, w.before args s = true) (h : (cd_rm 5).frames + 1 ≤ R0.frames ∧ 8 + (8 + 11) + (cd_rm 5).locals ≤ R0.locals) : CallW R0 s args R_law RX1 56 yX1_enough cX1_enough 8 (some .int) (ws_ yX1_enough cX1_enough 8 (some .int)) (cd_rm 5) 0 0 2 := cwV 2 hts (lw_V q275 q276 q277 q26 q278) rfl rfl rfl (by decide +kernel) h
set_option maxHeartbeats 4000000 in
set_option maxRecDepth 100000 in
/-- the law's case 9: enough -/
theorem law_enough {p : Program} {l : Launch} {e : Env} {s : State} {m : MethodId} {below : List Frame} {meth : Method} {c : Code} {b N : Nat} {xs : Nat → Int32} {D : va_G} {a : Nat → Nat} {d : Nat → ClassId} {a2 : Nat → Nat} {d2 : Nat → ClassId} {i : Nat} (C0 : lw_At p s m meth c b N xs) (hKD : va_K D cd_cls (cd_tD d) s) (hKM : va_K D cd_cls (cd_tM d2) s) (hN : N ≤ 256) (hi : i + 4 ≤ N) (k : cd_Cont p l e s m b below meth c D a d a2 d2 i 446) : cd_Cont p l e s m b below meth c D a d a2 d2 i 331 := by
  intro n K L R kn fd Wl hu Hl kn2 F T H locs ls hI hP hQ hD hS hl
  obtain ⟨hx, hb, hr, hml, hown, hts0, hX, hbl, hlocks, hgv⟩ := id C0
  have hts : ∀ w ∈ lw_all, w.before #[Value.ref b] s = true := fun w h => hts0 w (lw_all_tbl h)
  have hA : ∀ q : Nat, s.heap.size ≤ q → (fun q : Nat => s.heap.size ≤ q) q := fun _ h => h
  have hbA : ¬ (fun q : Nat => s.heap.size ≤ q) b := Nat.not_le.mpr hbl
  refine lv_aload_n hx hb dL_law_331 rfl (lv_at hl 1 rfl) ?_
  refine lv_aload_n hx hb dL_law_332 rfl (lv_at hl 0 rfl) ?_
  refine lv_iload_n hx hb dL_law_333 rfl (lv_at hl 3 rfl) ?_
  refine lv_iconst (v := nI 1) hx hb dL_law_334 (by decide) ?_
  refine lv_iadd hx hb dL_law_335 ?_
  refine cd_v (y := nI (i + 1)) (nI_add _ _) ?_
  refine va_sld hx hb hX hbl hbA hS (vp_in_nI (by omega) (by omega)) dL_law_336 ?_
  refine cd_v (y := xs (i + 1)) (congrArg xs (nI_clamp (by omega))) ?_
  refine lv_aload_n hx hb dL_law_337 rfl (lv_at hl 0 rfl) ?_
  refine lv_iload_n hx hb dL_law_338 rfl (lv_at hl 3 rfl) ?_
  refine lv_iconst (v := nI 2) hx hb dL_law_339 (by decide) ?_
  refine lv_iadd hx hb dL_law_340 ?_
  refine cd_v (y := nI (i + 2)) (nI_add _ _) ?_
  refine va_sld hx hb hX hbl hbA hS (vp_in_nI (by omega) (by omega)) dL_law_341 ?_
  refine cd_v (y := xs (i + 2)) (congrArg xs (nI_clamp (by omega))) ?_
  refine cd_lawRW ⟨hx, hb, hml, hown, hts⟩ (mD_enough l D a d n K L R kn fd Wl hu Hl (xs (i + 1)) (xs (i + 2)) hI.1 hI.2.1) (kLD_enough hts ⟨Nat.le_of_ble_eq_true rfl, Nat.le_of_ble_eq_true rfl⟩) rfl rfl rfl hP hQ hKD hD hS hA rfl hl.1 rfl (Nat.le_of_ble_eq_true rfl) dL_law_342 ⟨Nat.le_of_ble_eq_true rfl, Nat.le_of_ble_eq_true rfl⟩ (fun r1 u1 H locs h1 hP hQ hD hS => ?_)
  refine lv_aload_n hx hb dL_law_345 rfl (lv_at hl 2 rfl) ?_
  refine lv_aload_n hx hb dL_law_346 rfl (lv_at hl 0 rfl) ?_
  refine lv_iload_n hx hb dL_law_347 rfl (lv_at hl 3 rfl) ?_
  refine lv_iconst (v := nI 1) hx hb dL_law_348 (by decide) ?_
  refine lv_iadd hx hb dL_law_349 ?_
  refine cd_v (y := nI (i + 1)) (nI_add _ _) ?_
  refine va_sld hx hb hX hbl hbA hS (vp_in_nI (by omega) (by omega)) dL_law_350 ?_
  refine cd_v (y := xs (i + 1)) (congrArg xs (nI_clamp (by omega))) ?_
  refine lv_aload_n hx hb dL_law_351 rfl (lv_at hl 0 rfl) ?_
  refine lv_iload_n hx hb dL_law_352 rfl (lv_at hl 3 rfl) ?_
  refine lv_iconst (v := nI 2) hx hb dL_law_353 (by decide) ?_
  refine lv_iadd hx hb dL_law_354 ?_
  refine cd_v (y := nI (i + 2)) (nI_add _ _) ?_
  refine va_sld hx hb hX hbl hbA hS (vp_in_nI (by omega) (by omega)) dL_law_355 ?_
  refine cd_v (y := xs (i + 2)) (congrArg xs (nI_clamp (by omega))) ?_
  refine cd_lawRW ⟨hx, hb, hml, hown, hts⟩ (mM_enough l D a2 d2 n K L R kn2 F T (xs (i + 1)) (xs (i + 2)) hI.1 hI.2.2) (kLM_enough hts ⟨Nat.le_of_ble_eq_true rfl, Nat.le_of_ble_eq_true rfl⟩) rfl rfl rfl hQ hP hKM (cd_swapD hD) hS hA rfl hl.1 rfl (Nat.le_of_ble_eq_true rfl) dL_law_356 ⟨Nat.le_of_ble_eq_true rfl, Nat.le_of_ble_eq_true rfl⟩ (fun r2 u2 H locs h2 hQ hP hD hS => ?_)
  obtain ⟨g1, w1⟩ := h1
  obtain ⟨g2, w2⟩ := h2
  obtain ⟨kn', fd', Wl', hu', Hl'⟩ := u1
  obtain ⟨k2', F'⟩ := u2
  have er : r1 = r2 := cd_gd_one (v := fun j r => cd_en n K L R (cd_mo (xs (i + 1)) n) j r) hI.1.1 (fun j x y _ h1 h2 => cd_en_one h1 h2) g1 g2
  refine lv_icmp_eq (tgt := 446) hx hb dL_law_359 (by decide) (fun _ => ?_) (fun z => absurd er z)
  exact k n K L R kn' fd' Wl' hu' Hl' k2' F' T H locs ls ⟨hI.1, w1, w2⟩ hP hQ (cd_swapD hD) hS hl
theorem kLD_saturated {R0 : Room} {s : State} {args : Array Value} (hts : ∀ w ∈ lw_all, w.before args s = true) (h : (cd_rm 4).frames + 1 ≤ R0.frames ∧ 8 + (5 + 11) + (cd_rm 4).locals ≤ R0.locals) : CallW R0 s args R_law RX0 57 yX0_saturated cX0_saturated 5 (some .int) (ws_ yX0_saturated cX0_saturated 5 (some .int)) (cd_rm 4) 0 0 1 := cwV 1 hts (lw_V q157 q158 q159 q25 q160) rfl rfl rfl (by decide +kernel) h
theorem kLM_saturated {R0 : Room} {s : State} {args : Array Value} (hts : ∀ w ∈ lw_all, w.before args s = true) (h : (cd_rm 5).frames + 1 ≤ R0.frames ∧ 8 + (3 + 11) + (cd_rm 5).locals ≤ R0.locals) : CallW R0 s args R_law RX1 60 yX1_saturated cX1_saturated 3 (some .int) (ws_ yX1_saturated cX1_saturated 3 (some .int)) (cd_rm 5) 0 0 1 := cwV 1 hts (lw_V q283 q284 q285 q26 q286) rfl rfl rfl (by decide +kernel) h
set_option maxHeartbeats 4000000 in
set_option maxRecDepth 100000 in
/-- the law's case 10: saturated -/
theorem law_saturated {p : Program} {l : Launch} {e : Env} {s : State} {m : MethodId} {below : List Frame} {meth : Method} {c : Code} {b N : Nat} {xs : Nat → Int32} {D : va_G} {a : Nat → Nat} {d : Nat → ClassId} {a2 : Nat → Nat} {d2 : Nat → ClassId} {i : Nat} (C0 : lw_At p s m meth c b N xs) (hKD : va_K D cd_cls (cd_tD d) s) (hKM : va_K D cd_cls (cd_tM d2) s) (hN : N ≤ 256) (hi : i + 4 ≤ N) (k : cd_Cont p l e s m b below meth c D a d a2 d2 i 446) : cd_Cont p l e s m b below meth c D a d a2 d2 i 364 := by
  intro n K L R kn fd Wl hu Hl kn2 F T H locs ls hI hP hQ hD hS hl
  obtain ⟨hx, hb, hr, hml, hown, hts0, hX, hbl, hlocks, hgv⟩ := id C0
  have hts : ∀ w ∈ lw_all, w.before #[Value.ref b] s = true := fun w h => hts0 w (lw_all_tbl h)
  have hA : ∀ q : Nat, s.heap.size ≤ q → (fun q : Nat => s.heap.size ≤ q) q := fun _ h => h
  have hbA : ¬ (fun q : Nat => s.heap.size ≤ q) b := Nat.not_le.mpr hbl
  refine lv_aload_n hx hb dL_law_364 rfl (lv_at hl 1 rfl) ?_
  refine lv_aload_n hx hb dL_law_365 rfl (lv_at hl 0 rfl) ?_
  refine lv_iload_n hx hb dL_law_366 rfl (lv_at hl 3 rfl) ?_
  refine lv_iconst (v := nI 1) hx hb dL_law_367 (by decide) ?_
  refine lv_iadd hx hb dL_law_368 ?_
  refine cd_v (y := nI (i + 1)) (nI_add _ _) ?_
  refine va_sld hx hb hX hbl hbA hS (vp_in_nI (by omega) (by omega)) dL_law_369 ?_
  refine cd_v (y := xs (i + 1)) (congrArg xs (nI_clamp (by omega))) ?_
  refine cd_lawRW ⟨hx, hb, hml, hown, hts⟩ (mD_saturated l D a d n K L R kn fd Wl hu Hl (xs (i + 1)) hI.1 hI.2.1) (kLD_saturated hts ⟨Nat.le_of_ble_eq_true rfl, Nat.le_of_ble_eq_true rfl⟩) rfl rfl rfl hP hQ hKD hD hS hA rfl hl.1 rfl (Nat.le_of_ble_eq_true rfl) dL_law_370 ⟨Nat.le_of_ble_eq_true rfl, Nat.le_of_ble_eq_true rfl⟩ (fun r1 u1 H locs h1 hP hQ hD hS => ?_)
  refine lv_aload_n hx hb dL_law_373 rfl (lv_at hl 2 rfl) ?_
  refine lv_aload_n hx hb dL_law_374 rfl (lv_at hl 0 rfl) ?_
  refine lv_iload_n hx hb dL_law_375 rfl (lv_at hl 3 rfl) ?_
  refine lv_iconst (v := nI 1) hx hb dL_law_376 (by decide) ?_
  refine lv_iadd hx hb dL_law_377 ?_
  refine cd_v (y := nI (i + 1)) (nI_add _ _) ?_
  refine va_sld hx hb hX hbl hbA hS (vp_in_nI (by omega) (by omega)) dL_law_378 ?_
  refine cd_v (y := xs (i + 1)) (congrArg xs (nI_clamp (by omega))) ?_
  refine cd_lawRW ⟨hx, hb, hml, hown, hts⟩ (mM_saturated l D a2 d2 n K L R kn2 F T (xs (i + 1)) hI.1 hI.2.2) (kLM_saturated hts ⟨Nat.le_of_ble_eq_true rfl, Nat.le_of_ble_eq_true rfl⟩) rfl rfl rfl hQ hP hKM (cd_swapD hD) hS hA rfl hl.1 rfl (Nat.le_of_ble_eq_true rfl) dL_law_379 ⟨Nat.le_of_ble_eq_true rfl, Nat.le_of_ble_eq_true rfl⟩ (fun r2 u2 H locs h2 hQ hP hD hS => ?_)
  obtain ⟨g1, w1⟩ := h1
  obtain ⟨g2, w2⟩ := h2
  obtain ⟨kn', fd', Wl', hu', Hl'⟩ := u1
  obtain ⟨k2', F'⟩ := u2
  have er : r1 = r2 := Eq.trans g1 (Eq.symm g2)
  refine lv_icmp_eq (tgt := 446) hx hb dL_law_382 (by decide) (fun _ => ?_) (fun z => absurd er z)
  exact k n K L R kn' fd' Wl' hu' Hl' k2' F' T H locs ls ⟨hI.1, w1, w2⟩ hP hQ (cd_swapD hD) hS hl
theorem kLD_worlds {R0 : Room} {s : State} {args : Array Value} (hts : ∀ w ∈ lw_all, w.before args s = true) (h : (cd_rm 4).frames + 1 ≤ R0.frames ∧ 8 + (1 + 11) + (cd_rm 4).locals ≤ R0.locals) : CallW R0 s args R_law RX0 61 yX0_worlds cX0_worlds 1 (some .int) (ws_ yX0_worlds cX0_worlds 1 (some .int)) (cd_rm 4) 0 0 0 := cwV 0 hts (lw_V q161 q162 q163 q25 q164) rfl rfl rfl (by decide +kernel) h
theorem kLM_worlds {R0 : Room} {s : State} {args : Array Value} (hts : ∀ w ∈ lw_all, w.before args s = true) (h : (cd_rm 5).frames + 1 ≤ R0.frames ∧ 8 + (3 + 11) + (cd_rm 5).locals ≤ R0.locals) : CallW R0 s args R_law RX1 64 yX1_worlds cX1_worlds 3 (some .int) (ws_ yX1_worlds cX1_worlds 3 (some .int)) (cd_rm 5) 0 0 0 := cwV 0 hts (lw_V q291 q292 q293 q26 q294) rfl rfl rfl (by decide +kernel) h
set_option maxHeartbeats 4000000 in
set_option maxRecDepth 100000 in
/-- the law's case 11: worlds -/
theorem law_worlds {p : Program} {l : Launch} {e : Env} {s : State} {m : MethodId} {below : List Frame} {meth : Method} {c : Code} {b N : Nat} {xs : Nat → Int32} {D : va_G} {a : Nat → Nat} {d : Nat → ClassId} {a2 : Nat → Nat} {d2 : Nat → ClassId} {i : Nat} (C0 : lw_At p s m meth c b N xs) (hKD : va_K D cd_cls (cd_tD d) s) (hKM : va_K D cd_cls (cd_tM d2) s) (hN : N ≤ 256) (hi : i + 4 ≤ N) (k : cd_Cont p l e s m b below meth c D a d a2 d2 i 446) : cd_Cont p l e s m b below meth c D a d a2 d2 i 387 := by
  intro n K L R kn fd Wl hu Hl kn2 F T H locs ls hI hP hQ hD hS hl
  obtain ⟨hx, hb, hr, hml, hown, hts0, hX, hbl, hlocks, hgv⟩ := id C0
  have hts : ∀ w ∈ lw_all, w.before #[Value.ref b] s = true := fun w h => hts0 w (lw_all_tbl h)
  have hA : ∀ q : Nat, s.heap.size ≤ q → (fun q : Nat => s.heap.size ≤ q) q := fun _ h => h
  have hbA : ¬ (fun q : Nat => s.heap.size ≤ q) b := Nat.not_le.mpr hbl
  refine lv_aload_n hx hb dL_law_387 rfl (lv_at hl 1 rfl) ?_
  refine cd_lawRW ⟨hx, hb, hml, hown, hts⟩ (mD_worlds l D a d n K L R kn fd Wl hu Hl hI.1 hI.2.1) (kLD_worlds hts ⟨Nat.le_of_ble_eq_true rfl, Nat.le_of_ble_eq_true rfl⟩) rfl rfl rfl hP hQ hKD hD hS hA rfl hl.1 rfl (Nat.le_of_ble_eq_true rfl) dL_law_388 ⟨Nat.le_of_ble_eq_true rfl, Nat.le_of_ble_eq_true rfl⟩ (fun r1 u1 H locs h1 hP hQ hD hS => ?_)
  refine lv_aload_n hx hb dL_law_391 rfl (lv_at hl 2 rfl) ?_
  refine cd_lawRW ⟨hx, hb, hml, hown, hts⟩ (mM_worlds l D a2 d2 n K L R kn2 F T hI.1 hI.2.2) (kLM_worlds hts ⟨Nat.le_of_ble_eq_true rfl, Nat.le_of_ble_eq_true rfl⟩) rfl rfl rfl hQ hP hKM (cd_swapD hD) hS hA rfl hl.1 rfl (Nat.le_of_ble_eq_true rfl) dL_law_392 ⟨Nat.le_of_ble_eq_true rfl, Nat.le_of_ble_eq_true rfl⟩ (fun r2 u2 H locs h2 hQ hP hD hS => ?_)
  obtain ⟨g1, w1⟩ := h1
  obtain ⟨g2, w2⟩ := h2
  obtain ⟨kn', fd', Wl', hu', Hl'⟩ := u1
  obtain ⟨k2', F'⟩ := u2
  have er : r1 = r2 := Eq.trans g1 (Eq.symm g2)
  refine lv_icmp_eq (tgt := 446) hx hb dL_law_395 (by decide) (fun _ => ?_) (fun z => absurd er z)
  exact k n K L R kn' fd' Wl' hu' Hl' k2' F' T H locs ls ⟨hI.1, w1, w2⟩ hP hQ (cd_swapD hD) hS hl
theorem kLD_against {R0 : Room} {s : State} {args : Array Value} (hts : ∀ w ∈ lw_all, w.before args s = true) (h : (cd_rm 4).frames + 1 ≤ R0.frames ∧ 8 + (6 + 11) + (cd_rm 4).locals ≤ R0.locals) : CallW R0 s args R_law RX0 65 yX0_against cX0_against 6 (some .int) (ws_ yX0_against cX0_against 6 (some .int)) (cd_rm 4) 0 0 2 := cwV 2 hts (lw_V q165 q166 q167 q25 q168) rfl rfl rfl (by decide +kernel) h
theorem kLM_against {R0 : Room} {s : State} {args : Array Value} (hts : ∀ w ∈ lw_all, w.before args s = true) (h : (cd_rm 5).frames + 1 ≤ R0.frames ∧ 8 + (5 + 11) + (cd_rm 5).locals ≤ R0.locals) : CallW R0 s args R_law RX1 68 yX1_against cX1_against 5 (some .int) (ws_ yX1_against cX1_against 5 (some .int)) (cd_rm 5) 0 0 2 := cwV 2 hts (lw_V q295 q296 q297 q26 q298) rfl rfl rfl (by decide +kernel) h
set_option maxHeartbeats 4000000 in
set_option maxRecDepth 100000 in
/-- the law's case 12: against -/
theorem law_against {p : Program} {l : Launch} {e : Env} {s : State} {m : MethodId} {below : List Frame} {meth : Method} {c : Code} {b N : Nat} {xs : Nat → Int32} {D : va_G} {a : Nat → Nat} {d : Nat → ClassId} {a2 : Nat → Nat} {d2 : Nat → ClassId} {i : Nat} (C0 : lw_At p s m meth c b N xs) (hKD : va_K D cd_cls (cd_tD d) s) (hKM : va_K D cd_cls (cd_tM d2) s) (hN : N ≤ 256) (hi : i + 4 ≤ N) (k : cd_Cont p l e s m b below meth c D a d a2 d2 i 446) : cd_Cont p l e s m b below meth c D a d a2 d2 i 400 := by
  intro n K L R kn fd Wl hu Hl kn2 F T H locs ls hI hP hQ hD hS hl
  obtain ⟨hx, hb, hr, hml, hown, hts0, hX, hbl, hlocks, hgv⟩ := id C0
  have hts : ∀ w ∈ lw_all, w.before #[Value.ref b] s = true := fun w h => hts0 w (lw_all_tbl h)
  have hA : ∀ q : Nat, s.heap.size ≤ q → (fun q : Nat => s.heap.size ≤ q) q := fun _ h => h
  have hbA : ¬ (fun q : Nat => s.heap.size ≤ q) b := Nat.not_le.mpr hbl
  refine lv_aload_n hx hb dL_law_400 rfl (lv_at hl 1 rfl) ?_
  refine lv_aload_n hx hb dL_law_401 rfl (lv_at hl 0 rfl) ?_
  refine lv_iload_n hx hb dL_law_402 rfl (lv_at hl 3 rfl) ?_
  refine lv_iconst (v := nI 1) hx hb dL_law_403 (by decide) ?_
  refine lv_iadd hx hb dL_law_404 ?_
  refine cd_v (y := nI (i + 1)) (nI_add _ _) ?_
  refine va_sld hx hb hX hbl hbA hS (vp_in_nI (by omega) (by omega)) dL_law_405 ?_
  refine cd_v (y := xs (i + 1)) (congrArg xs (nI_clamp (by omega))) ?_
  refine lv_aload_n hx hb dL_law_406 rfl (lv_at hl 0 rfl) ?_
  refine lv_iload_n hx hb dL_law_407 rfl (lv_at hl 3 rfl) ?_
  refine lv_iconst (v := nI 2) hx hb dL_law_408 (by decide) ?_
  refine lv_iadd hx hb dL_law_409 ?_
  refine cd_v (y := nI (i + 2)) (nI_add _ _) ?_
  refine va_sld hx hb hX hbl hbA hS (vp_in_nI (by omega) (by omega)) dL_law_410 ?_
  refine cd_v (y := xs (i + 2)) (congrArg xs (nI_clamp (by omega))) ?_
  refine cd_lawRW ⟨hx, hb, hml, hown, hts⟩ (mD_against l D a d n K L R kn fd Wl hu Hl (xs (i + 1)) (xs (i + 2)) hI.1 hI.2.1) (kLD_against hts ⟨Nat.le_of_ble_eq_true rfl, Nat.le_of_ble_eq_true rfl⟩) rfl rfl rfl hP hQ hKD hD hS hA rfl hl.1 rfl (Nat.le_of_ble_eq_true rfl) dL_law_411 ⟨Nat.le_of_ble_eq_true rfl, Nat.le_of_ble_eq_true rfl⟩ (fun r1 u1 H locs h1 hP hQ hD hS => ?_)
  refine lv_aload_n hx hb dL_law_414 rfl (lv_at hl 2 rfl) ?_
  refine lv_aload_n hx hb dL_law_415 rfl (lv_at hl 0 rfl) ?_
  refine lv_iload_n hx hb dL_law_416 rfl (lv_at hl 3 rfl) ?_
  refine lv_iconst (v := nI 1) hx hb dL_law_417 (by decide) ?_
  refine lv_iadd hx hb dL_law_418 ?_
  refine cd_v (y := nI (i + 1)) (nI_add _ _) ?_
  refine va_sld hx hb hX hbl hbA hS (vp_in_nI (by omega) (by omega)) dL_law_419 ?_
  refine cd_v (y := xs (i + 1)) (congrArg xs (nI_clamp (by omega))) ?_
  refine lv_aload_n hx hb dL_law_420 rfl (lv_at hl 0 rfl) ?_
  refine lv_iload_n hx hb dL_law_421 rfl (lv_at hl 3 rfl) ?_
  refine lv_iconst (v := nI 2) hx hb dL_law_422 (by decide) ?_
  refine lv_iadd hx hb dL_law_423 ?_
  refine cd_v (y := nI (i + 2)) (nI_add _ _) ?_
  refine va_sld hx hb hX hbl hbA hS (vp_in_nI (by omega) (by omega)) dL_law_424 ?_
  refine cd_v (y := xs (i + 2)) (congrArg xs (nI_clamp (by omega))) ?_
  refine cd_lawRW ⟨hx, hb, hml, hown, hts⟩ (mM_against l D a2 d2 n K L R kn2 F T (xs (i + 1)) (xs (i + 2)) hI.1 hI.2.2) (kLM_against hts ⟨Nat.le_of_ble_eq_true rfl, Nat.le_of_ble_eq_true rfl⟩) rfl rfl rfl hQ hP hKM (cd_swapD hD) hS hA rfl hl.1 rfl (Nat.le_of_ble_eq_true rfl) dL_law_425 ⟨Nat.le_of_ble_eq_true rfl, Nat.le_of_ble_eq_true rfl⟩ (fun r2 u2 H locs h2 hQ hP hD hS => ?_)
  obtain ⟨g1, w1⟩ := h1
  obtain ⟨g2, w2⟩ := h2
  obtain ⟨kn', fd', Wl', hu', Hl'⟩ := u1
  obtain ⟨k2', F'⟩ := u2
  have er : r1 = r2 := cd_gd_one (v := fun j r => cd_ag n K L R (cd_mo (xs (i + 1)) n) j r) hI.1.1 (fun j x y _ h1 h2 => cd_ag_one h1 h2) g1 g2
  refine lv_icmp_eq (tgt := 446) hx hb dL_law_428 (by decide) (fun _ => ?_) (fun z => absurd er z)
  exact k n K L R kn' fd' Wl' hu' Hl' k2' F' T H locs ls ⟨hI.1, w1, w2⟩ hP hQ (cd_swapD hD) hS hl
theorem kLD_closedSets {R0 : Room} {s : State} {args : Array Value} (hts : ∀ w ∈ lw_all, w.before args s = true) (h : (cd_rm 4).frames + 1 ≤ R0.frames ∧ 8 + (4 + 11) + (cd_rm 4).locals ≤ R0.locals) : CallW R0 s args R_law RX0 69 yX0_closedSets cX0_closedSets 4 (some .int) (ws_ yX0_closedSets cX0_closedSets 4 (some .int)) (cd_rm 4) 0 0 0 := cwV 0 hts (lw_V q169 q170 q171 q25 q172) rfl rfl rfl (by decide +kernel) h
theorem kLM_closedSets {R0 : Room} {s : State} {args : Array Value} (hts : ∀ w ∈ lw_all, w.before args s = true) (h : (cd_rm 5).frames + 1 ≤ R0.frames ∧ 8 + (3 + 11) + (cd_rm 5).locals ≤ R0.locals) : CallW R0 s args R_law RX1 72 yX1_closedSets cX1_closedSets 3 (some .int) (ws_ yX1_closedSets cX1_closedSets 3 (some .int)) (cd_rm 5) 0 0 0 := cwV 0 hts (lw_V q299 q300 q301 q26 q302) rfl rfl rfl (by decide +kernel) h
set_option maxHeartbeats 4000000 in
set_option maxRecDepth 100000 in
/-- the law's case 13: closedSets -/
theorem law_closedSets {p : Program} {l : Launch} {e : Env} {s : State} {m : MethodId} {below : List Frame} {meth : Method} {c : Code} {b N : Nat} {xs : Nat → Int32} {D : va_G} {a : Nat → Nat} {d : Nat → ClassId} {a2 : Nat → Nat} {d2 : Nat → ClassId} {i : Nat} (C0 : lw_At p s m meth c b N xs) (hKD : va_K D cd_cls (cd_tD d) s) (hKM : va_K D cd_cls (cd_tM d2) s) (hN : N ≤ 256) (hi : i + 4 ≤ N) (k : cd_Cont p l e s m b below meth c D a d a2 d2 i 446) : cd_Cont p l e s m b below meth c D a d a2 d2 i 433 := by
  intro n K L R kn fd Wl hu Hl kn2 F T H locs ls hI hP hQ hD hS hl
  obtain ⟨hx, hb, hr, hml, hown, hts0, hX, hbl, hlocks, hgv⟩ := id C0
  have hts : ∀ w ∈ lw_all, w.before #[Value.ref b] s = true := fun w h => hts0 w (lw_all_tbl h)
  have hA : ∀ q : Nat, s.heap.size ≤ q → (fun q : Nat => s.heap.size ≤ q) q := fun _ h => h
  have hbA : ¬ (fun q : Nat => s.heap.size ≤ q) b := Nat.not_le.mpr hbl
  refine lv_aload_n hx hb dL_law_433 rfl (lv_at hl 1 rfl) ?_
  refine cd_lawRW ⟨hx, hb, hml, hown, hts⟩ (mD_closedSets l D a d n K L R kn fd Wl hu Hl hI.1 hI.2.1) (kLD_closedSets hts ⟨Nat.le_of_ble_eq_true rfl, Nat.le_of_ble_eq_true rfl⟩) rfl rfl rfl hP hQ hKD hD hS hA rfl hl.1 rfl (Nat.le_of_ble_eq_true rfl) dL_law_434 ⟨Nat.le_of_ble_eq_true rfl, Nat.le_of_ble_eq_true rfl⟩ (fun r1 u1 H locs h1 hP hQ hD hS => ?_)
  refine lv_aload_n hx hb dL_law_437 rfl (lv_at hl 2 rfl) ?_
  refine cd_lawRW ⟨hx, hb, hml, hown, hts⟩ (mM_closedSets l D a2 d2 n K L R kn2 F T hI.1 hI.2.2) (kLM_closedSets hts ⟨Nat.le_of_ble_eq_true rfl, Nat.le_of_ble_eq_true rfl⟩) rfl rfl rfl hQ hP hKM (cd_swapD hD) hS hA rfl hl.1 rfl (Nat.le_of_ble_eq_true rfl) dL_law_438 ⟨Nat.le_of_ble_eq_true rfl, Nat.le_of_ble_eq_true rfl⟩ (fun r2 u2 H locs h2 hQ hP hD hS => ?_)
  obtain ⟨g1, w1⟩ := h1
  obtain ⟨g2, w2⟩ := h2
  obtain ⟨kn', fd', Wl', hu', Hl'⟩ := u1
  obtain ⟨k2', F'⟩ := u2
  have er : r1 = r2 := Eq.trans g1 (Eq.symm g2)
  refine lv_icmp_eq (tgt := 446) hx hb dL_law_441 (by decide) (fun _ => ?_) (fun z => absurd er z)
  exact k n K L R kn' fd' Wl' hu' Hl' k2' F' T H locs ls ⟨hI.1, w1, w2⟩ hP hQ (cd_swapD hD) hS hl
end
section
/-! the law's loop and its start -/
theorem law_inc {p : Program} {l : Launch} {e : Env} {s : State} {m : MethodId} {below : List Frame} {meth : Method} {c : Code} {b N : Nat} {xs : Nat → Int32} {D : va_G} {a : Nat → Nat} {d : Nat → ClassId} {a2 : Nat → Nat} {d2 : Nat → ClassId} {i : Nat} (C0 : lw_At p s m meth c b N xs) (hKD : va_K D cd_cls (cd_tD d) s) (hKM : va_K D cd_cls (cd_tM d2) s) (hN : N ≤ 256) (k : cd_Cont p l e s m b below meth c D a d a2 d2 (i + 4) 18) : cd_Cont p l e s m b below meth c D a d a2 d2 i 446 := by
  intro n K L R kn fd Wl hu Hl kn2 F T H locs ls hI hP hQ hD hS hl
  obtain ⟨hx, hb, hr, hml, hown, hts0, hX, hbl, hlocks, hgv⟩ := id C0
  have hts : ∀ w ∈ lw_all, w.before #[Value.ref b] s = true := fun w h => hts0 w (lw_all_tbl h)
  have hA : ∀ q : Nat, s.heap.size ≤ q → (fun q : Nat => s.heap.size ≤ q) q := fun _ h => h
  have hbA : ¬ (fun q : Nat => s.heap.size ≤ q) b := Nat.not_le.mpr hbl
  refine lv_iinc (v := nI (i + 4)) (lv' := [(3, .int (nI (i + 4))), (0, .ref b), (1, .ref (a 0)), (2, .ref (a2 0))]) hx hb dL_law_446 hl (k := 3) rfl (cd_inc4 _) (by decide) rfl (fun ls hl => ?_)
  refine lv_goto (tgt := 18) hx hb dL_law_449 (by decide) ?_
  exact k n K L R kn fd Wl hu Hl kn2 F T H locs ls hI hP hQ hD hS (lv_sub hl [1, 2, 3, 0] rfl)
set_option maxHeartbeats 4000000 in
set_option maxRecDepth 100000 in
theorem law_step {p : Program} {l : Launch} {e : Env} {s : State} {m : MethodId} {below : List Frame} {meth : Method} {c : Code} {b N : Nat} {xs : Nat → Int32} {D : va_G} {a : Nat → Nat} {d : Nat → ClassId} {a2 : Nat → Nat} {d2 : Nat → ClassId} {i : Nat} (C0 : lw_At p s m meth c b N xs) (hKD : va_K D cd_cls (cd_tD d) s) (hKM : va_K D cd_cls (cd_tM d2) s) (hN : N ≤ 256) (hi : i ≤ 256) (k : i + 4 ≤ N → cd_Cont p l e s m b below meth c D a d a2 d2 (i + 4) 18) : cd_Cont p l e s m b below meth c D a d a2 d2 i 18 := by
  intro n K L R kn fd Wl hu Hl kn2 F T H locs ls hI hP hQ hD hS hl
  obtain ⟨hx, hb, hr, hml, hown, hts0, hX, hbl, hlocks, hgv⟩ := id C0
  have hts : ∀ w ∈ lw_all, w.before #[Value.ref b] s = true := fun w h => hts0 w (lw_all_tbl h)
  have hA : ∀ q : Nat, s.heap.size ≤ q → (fun q : Nat => s.heap.size ≤ q) q := fun _ h => h
  have hbA : ¬ (fun q : Nat => s.heap.size ≤ q) b := Nat.not_le.mpr hbl
  refine lv_iload_n hx hb dL_law_18 rfl (lv_at hl 3 rfl) ?_
  refine lv_aload_n hx hb dL_law_19 rfl (lv_at hl 0 rfl) ?_
  refine va_slen hx hb hX hbl hbA hS dL_law_20 ?_
  refine lv_iconst (v := nI 4) hx hb dL_law_21 (by decide) ?_
  refine lv_isub hx hb dL_law_22 ?_
  refine lv_icmp_gt (tgt := 452) hx hb dL_law_23 (by decide) (fun c23 => ?_) (fun c23 => ?_)
  · refine lv_iconst (v := 1) hx hb dL_law_452 (by decide) ?_
    refine va_forget (fun q hq => hS.2.2 q hq) ?_
    refine W.widen (k := 600000) (n := 7290000) (by decide) (by decide) ?_
    exact lw_ret hx hb hr hlocks dL_law_453
  · have hi4 : i + 4 ≤ N := by rw [cd_lawc hi hN] at c23; omega
    have k446 : cd_Cont p l e s m b below meth c D a d a2 d2 i 446 := law_inc C0 hKD hKM hN (k hi4)
    refine lv_aload_n hx hb dL_law_26 rfl (lv_at hl 0 rfl) ?_
    refine lv_iload_n hx hb dL_law_27 rfl (lv_at hl 3 rfl) ?_
    refine va_sld hx hb hX hbl hbA hS (vp_in_nI (by omega) (by omega)) dL_law_28 ?_
    refine lv_bipush (v := nI 15) hx hb dL_law_29 (by decide) ?_
    refine lv_iand hx hb dL_law_31 ?_
    obtain ⟨j, hj, ej⟩ := pk_andE (xs (nI i).toNatClampNeg) (m := nI 15) 4 (by decide)
    refine cd_v (y := nI j) ej ?_
    rcases (show j = 0 ∨ j = 1 ∨ j = 2 ∨ j = 3 ∨ j = 4 ∨ j = 5 ∨ j = 6 ∨ j = 7 ∨ j = 8 ∨ j = 9 ∨ j = 10 ∨ j = 11 ∨ j = 12 ∨ j = 13 ∨ j = 14 ∨ j = 15 by omega) with rfl | rfl | rfl | rfl | rfl | rfl | rfl | rfl | rfl | rfl | rfl | rfl | rfl | rfl | rfl | rfl
    · refine lv_tableIn (off := 72) (tgt := 104) hx hb dL_law_32 (by decide) (by decide) (by decide) (by decide) ?_
      exact law_atom C0 hKD hKM hN hi4 k446 n K L R kn fd Wl hu Hl kn2 F T H locs ls hI hP hQ hD hS hl
    · refine lv_tableIn (off := 95) (tgt := 127) hx hb dL_law_32 (by decide) (by decide) (by decide) (by decide) ?_
      exact law_falsum C0 hKD hKM hN hi4 k446 n K L R kn fd Wl hu Hl kn2 F T H locs ls hI hP hQ hD hS hl
    · refine lv_tableIn (off := 108) (tgt := 140) hx hb dL_law_32 (by decide) (by decide) (by decide) (by decide) ?_
      exact law_join C0 hKD hKM hN hi4 k446 n K L R kn fd Wl hu Hl kn2 F T H locs ls hI hP hQ hD hS hl
    · refine lv_tableIn (off := 151) (tgt := 183) hx hb dL_law_32 (by decide) (by decide) (by decide) (by decide) ?_
      exact law_drop C0 hKD hKM hN hi4 k446 n K L R kn fd Wl hu Hl kn2 F T H locs ls hI hP hQ hD hS hl
    · refine lv_tableIn (off := 164) (tgt := 196) hx hb dL_law_32 (by decide) (by decide) (by decide) (by decide) ?_
      exact law_size C0 hKD hKM hN hi4 k446 n K L R kn fd Wl hu Hl kn2 F T H locs ls hI hP hQ hD hS hl
    · refine lv_tableIn (off := 177) (tgt := 209) hx hb dL_law_32 (by decide) (by decide) (by decide) (by decide) ?_
      exact law_follows C0 hKD hKM hN hi4 k446 n K L R kn fd Wl hu Hl kn2 F T H locs ls hI hP hQ hD hS hl
    · refine lv_tableIn (off := 210) (tgt := 242) hx hb dL_law_32 (by decide) (by decide) (by decide) (by decide) ?_
      exact law_all C0 hKD hKM hN hi4 k446 n K L R kn fd Wl hu Hl kn2 F T H locs ls hI hP hQ hD hS hl
    · refine lv_tableIn (off := 233) (tgt := 265) hx hb dL_law_32 (by decide) (by decide) (by decide) (by decide) ?_
      exact law_classically C0 hKD hKM hN hi4 k446 n K L R kn fd Wl hu Hl kn2 F T H locs ls hI hP hQ hD hS hl
    · refine lv_tableIn (off := 266) (tgt := 298) hx hb dL_law_32 (by decide) (by decide) (by decide) (by decide) ?_
      exact law_alike C0 hKD hKM hN hi4 k446 n K L R kn fd Wl hu Hl kn2 F T H locs ls hI hP hQ hD hS hl
    · refine lv_tableIn (off := 299) (tgt := 331) hx hb dL_law_32 (by decide) (by decide) (by decide) (by decide) ?_
      exact law_enough C0 hKD hKM hN hi4 k446 n K L R kn fd Wl hu Hl kn2 F T H locs ls hI hP hQ hD hS hl
    · refine lv_tableIn (off := 332) (tgt := 364) hx hb dL_law_32 (by decide) (by decide) (by decide) (by decide) ?_
      exact law_saturated C0 hKD hKM hN hi4 k446 n K L R kn fd Wl hu Hl kn2 F T H locs ls hI hP hQ hD hS hl
    · refine lv_tableIn (off := 355) (tgt := 387) hx hb dL_law_32 (by decide) (by decide) (by decide) (by decide) ?_
      exact law_worlds C0 hKD hKM hN hi4 k446 n K L R kn fd Wl hu Hl kn2 F T H locs ls hI hP hQ hD hS hl
    · refine lv_tableIn (off := 368) (tgt := 400) hx hb dL_law_32 (by decide) (by decide) (by decide) (by decide) ?_
      exact law_against C0 hKD hKM hN hi4 k446 n K L R kn fd Wl hu Hl kn2 F T H locs ls hI hP hQ hD hS hl
    · refine lv_tableIn (off := 401) (tgt := 433) hx hb dL_law_32 (by decide) (by decide) (by decide) (by decide) ?_
      exact law_closedSets C0 hKD hKM hN hi4 k446 n K L R kn fd Wl hu Hl kn2 F T H locs ls hI hP hQ hD hS hl
    · refine lv_tableOut (tgt := 446) hx hb dL_law_32 (by decide) (by decide) ?_
      exact k446 n K L R kn fd Wl hu Hl kn2 F T H locs ls hI hP hQ hD hS hl
    · refine lv_tableOut (tgt := 446) hx hb dL_law_32 (by decide) (by decide) ?_
      exact k446 n K L R kn fd Wl hu Hl kn2 F T H locs ls hI hP hQ hD hS hl
theorem law_loop {p : Program} {l : Launch} {e : Env} {s : State} {m : MethodId} {below : List Frame} {meth : Method} {c : Code} {b N : Nat} {xs : Nat → Int32} {D : va_G} {a : Nat → Nat} {d : Nat → ClassId} {a2 : Nat → Nat} {d2 : Nat → ClassId} (C0 : lw_At p s m meth c b N xs) (hKD : va_K D cd_cls (cd_tD d) s) (hKM : va_K D cd_cls (cd_tM d2) s) (hN : N ≤ 256) : ∀ f i, i ≤ 256 → N < i + 4 + f → cd_Cont p l e s m b below meth c D a d a2 d2 i 18 := by
  intro f
  induction f with
  | zero =>
    intro i h1 h2
    exact law_step C0 hKD hKM hN h1 (fun h => absurd h (by omega))
  | succ f ih =>
    intro i h1 h2
    exact law_step C0 hKD hKM hN h1 (fun h => ih (i + 4) (by omega) (by omega))
set_option maxHeartbeats 4000000 in
set_option maxRecDepth 100000 in
/-- THE LAW, from its entry -/
theorem whole_start {p : Program} {e : Env} {s : State} {m : MethodId} {below : List Frame} {meth : Method} {c : Code} (l : Launch) {b L : Nat} {xs : Nat → Int32} (hL : L ≤ 256) (C0 : lw_At p s m meth c b L xs) : W p l e room_1 s m #[Value.ref b] below meth c s.heap [] 0 0 (lw_Z below #[Value.ref b] s) (entryFrame m ([Value.ref b] : List Value).toArray 4) := by
  obtain ⟨hx, hb, hr, hml, hown, hts0, hX, hbl, hlocks, hgv⟩ := id C0
  have hts : ∀ w ∈ lw_all, w.before #[Value.ref b] s = true := fun w h => hts0 w (lw_all_tbl h)
  have hA : ∀ q : Nat, s.heap.size ≤ q → (fun q : Nat => s.heap.size ≤ q) q := fun _ h => h
  obtain ⟨c0_, iS0, hKn0⟩ := u_known (C := RX0) (T := TX0) (N := 9) (n := 9) hts in_X0 (hts _ q28)
  obtain ⟨c1_, iS1, hKn1⟩ := u_known (C := RX1) (T := TX1) (N := 7) (n := 7) hts in_X1 (hts _ q174)
  obtain ⟨dC, dI, hKc⟩ : ∃ (dC : Nat → ClassId) (dI : Nat → Nat → Nat), ∀ (k : Nat) (q : vw_C), cd_cls[k]? = some q → u_Kn s q.1 q.2.1 q.2.2 (dC k) (dI k) := by
    refine ⟨fun k => if k = 0 then c0_ else c1_, fun k => if k = 0 then iS0 else iS1, ?_⟩
    intro k q hq
    match k, hq with
    | 0, hq => cases hq; exact hKn0
    | 1, hq => cases hq; exact hKn1
    | k + 2, hq => simp [cd_cls] at hq
  obtain ⟨D, hDe⟩ : ∃ D : va_G, D = (dC, dI) := ⟨_, rfl⟩
  have hS : va_S (fun q : Nat => s.heap.size ≤ q) s.heap s.heap [] := va_S.rf
  have hK : va_K D cd_cls [] s := by rw [hDe]; exact ⟨hKc, fun k q h => by simp at h⟩
  have hP : va_P D cd_cls [] s.heap := fun k q h => by simp at h
  have hD : va_D (fun q : Nat => s.heap.size ≤ q) [] := ⟨fun i j p q h => by simp at h, fun k q h => by simp at h⟩
  have hl := lv_entry ([.ref b]) (n := 4) (Nat.le_of_ble_eq_true rfl)
  rw [lg_entry_eq]
  generalize (lg_sl ([.ref b]) ++ List.replicate (4 - (lg_sl ([.ref b])).length) Slot.unset).toArray = ls at hl ⊢
  have hl : lv_has ls 4 [(0, .ref b)] := hl
  refine va_new (ci := 0) (fs := [.int (nI 0), .null, .null, .null, .int (nI 0), .int (nI 0), .null, .int (nI 0), .null]) (C := RX0) (T := TX0) (N := 9) hx hb hts in_X0 tyX0 tyX0_ok hown (hts _ q27) (hts _ q28) (hts _ q25) hK hP hD hS hA rfl (fun j hj => by rcases (show j = 0 ∨ j = 1 ∨ j = 2 ∨ j = 3 ∨ j = 4 ∨ j = 5 ∨ j = 6 ∨ j = 7 ∨ j = 8 by omega) with rfl | rfl | rfl | rfl | rfl | rfl | rfl | rfl | rfl <;> rfl) (by decide) (by decide) dL_law_0 (fun qd H hP hD hS => ?_)
  have hP : va_P D cd_cls (cd_oD qd) H := hP
  have hD : va_D (fun q : Nat => s.heap.size ≤ q) (cd_oD qd) := hD
  refine W.widen (k := 1) (n := 9) (by omega) (by omega) ?_
  refine lv_dup hx hb dL_law_3 rfl ?_
  have hPc := hP
  have hDc := hD
  have hKc := hK
  have hFc := va_free (wc := cd_oD qd) hD hS hA [0] rfl
  refine va_callv (va_runI (As := []) (rest := [.ref qd]) ⟨hx, hb, hml, hown, hts⟩ (mD_init l D qd H.size) (cwI 0 hts (lw_meth q31) rfl rfl rfl (hts _ q25) (hts _ q29) (hts _ q30) rfl (by decide +kernel) ⟨Nat.le_of_ble_eq_true rfl, Nat.le_of_ble_eq_true rfl⟩) ⟨fun a U g mk q => by obtain ⟨q0, q1, qP, qK, qD⟩ := q; exact ⟨q0, q1, qP, va_K.moved (u := U) (U := U.calling g mk a) (Vm.Alike.refl U.vm) qK, qD⟩, fun U hU hW => ⟨rfl, by rw [hU], by rw [hU]; exact hPc, va_K.moved hW.alike hKc, hDc.weaken (fun _ _ _ _ => trivial)⟩⟩ rfl rfl hl.1 rfl (lv_room (Nat.le_of_ble_eq_true rfl)) dL_law_4 ⟨Nat.le_of_ble_eq_true rfl, Nat.le_of_ble_eq_true rfl⟩) hS (fun q _ h => hFc q h) hFc (fun u t H1 locs ht hvm hw1 hB hz1 hk1 hS => ?_)
  obtain ⟨a, d⟩ := u
  have ha0 : a 0 = qd := hw1
  obtain ⟨hP1, hK1, hD1⟩ := hB
  rw [ht] at hP1
  have hKD : va_K D cd_cls (cd_tD d) s := va_K.moved hvm.symm hK1
  obtain ⟨hP, hD⟩ := va_join (wr := []) (w1 := cd_wD a d 0 (fun _ => 0) (fun _ => 0) (fun _ => 0) False 0 (fun _ => 0) 0 (fun _ => 0)) hP hD [0] [] rfl rfl (by decide) (by decide) hk1 hFc hP1 hD1
  generalize H1 = H at hP hS ⊢
  have hP : va_P D cd_cls (cd_wD a d 0 (fun _ => 0) (fun _ => 0) (fun _ => 0) False 0 (fun _ => 0) 0 (fun _ => 0)) H := hP
  have hD : va_D (fun q : Nat => s.heap.size ≤ q) (cd_wD a d 0 (fun _ => 0) (fun _ => 0) (fun _ => 0) False 0 (fun _ => 0) 0 (fun _ => 0)) := hD
  refine W.widen (k := 6) (n := 4138) (by decide) (by decide) ?_
  refine lv_astore_n (lv' := [(1, .ref qd), (0, .ref b)]) hx hb dL_law_7 rfl hl (by decide) rfl (fun ls hl => ?_)
  refine va_new (ci := 1) (fs := [.int (nI 0), .null, .null, .null, .int (nI 0), .null, .null]) (C := RX1) (T := TX1) (N := 7) hx hb hts in_X1 tyX1 tyX1_ok hown (hts _ q173) (hts _ q174) (hts _ q26) hK hP hD hS hA rfl (fun j hj => by rcases (show j = 0 ∨ j = 1 ∨ j = 2 ∨ j = 3 ∨ j = 4 ∨ j = 5 ∨ j = 6 by omega) with rfl | rfl | rfl | rfl | rfl | rfl | rfl <;> rfl) (by decide) (by decide) dL_law_8 (fun qm H hP hD hS => ?_)
  have hP : va_P D cd_cls (cd_wD a d 0 (fun _ => 0) (fun _ => 0) (fun _ => 0) False 0 (fun _ => 0) 0 (fun _ => 0) ++ cd_oM qm) H := hP
  have hD : va_D (fun q : Nat => s.heap.size ≤ q) (cd_wD a d 0 (fun _ => 0) (fun _ => 0) (fun _ => 0) False 0 (fun _ => 0) 0 (fun _ => 0) ++ cd_oM qm) := hD
  refine W.widen (k := 7) (n := 4145) (by omega) (by omega) ?_
  refine lv_dup hx hb dL_law_11 rfl ?_
  have hPc := cd_Pr hP
  have hDc := cd_Dr hD
  have hKc := hK
  have hFc := va_free (wc := cd_oM qm) hD hS hA [6] rfl
  refine va_callv (va_runI (As := []) (rest := [.ref qm]) ⟨hx, hb, hml, hown, hts⟩ (mM_init l D qm H.size) (cwI 0 hts (lw_meth q177) rfl rfl rfl (hts _ q26) (hts _ q175) (hts _ q176) rfl (by decide +kernel) ⟨Nat.le_of_ble_eq_true rfl, Nat.le_of_ble_eq_true rfl⟩) ⟨fun a U g mk q => by obtain ⟨q0, q1, qP, qK, qD⟩ := q; exact ⟨q0, q1, qP, va_K.moved (u := U) (U := U.calling g mk a) (Vm.Alike.refl U.vm) qK, qD⟩, fun U hU hW => ⟨rfl, by rw [hU], by rw [hU]; exact hPc, va_K.moved hW.alike hKc, hDc.weaken (fun _ _ _ _ => trivial)⟩⟩ rfl rfl hl.1 rfl (lv_room (Nat.le_of_ble_eq_true rfl)) dL_law_12 ⟨Nat.le_of_ble_eq_true rfl, Nat.le_of_ble_eq_true rfl⟩) hS (fun q _ h => hFc q h) hFc (fun u t H1 locs ht hvm hw1 hB hz1 hk1 hS => ?_)
  obtain ⟨a2, d2⟩ := u
  have ha2 : a2 0 = qm := hw1
  obtain ⟨hP1, hK1, hD1⟩ := hB
  rw [ht] at hP1
  have hKM : va_K D cd_cls (cd_tM d2) s := va_K.moved hvm.symm hK1
  obtain ⟨hP, hD⟩ := va_join (wr := cd_wD a d 0 (fun _ => 0) (fun _ => 0) (fun _ => 0) False 0 (fun _ => 0) 0 (fun _ => 0)) (w1 := cd_wM a2 d2 0 (fun _ => 0) (fun _ => 0) (fun _ => 0) False (fun _ => 0) (fun _ => False)) hP hD [6] [0, 1, 2, 3, 4, 5] rfl rfl (by decide) (by decide) hk1 hFc hP1 hD1
  generalize H1 = H at hP hS ⊢
  refine W.widen (k := 12) (n := 6237) (by decide) (by decide) ?_
  refine lv_astore_n (lv' := [(2, .ref qm), (1, .ref qd), (0, .ref b)]) hx hb dL_law_15 rfl hl (by decide) rfl (fun ls hl => ?_)
  refine lv_iconst (v := nI 0) hx hb dL_law_16 (by decide) ?_
  refine lv_istore_n (lv' := [(3, .int (nI 0)), (2, .ref qm), (1, .ref qd), (0, .ref b)]) hx hb dL_law_17 rfl hl (by decide) rfl (fun ls hl => ?_)
  rw [← ha0, ← ha2] at hl
  exact law_loop C0 hKD hKM hL L 0 (by omega) (by omega) 0 (fun _ => 0) (fun _ => 0) (fun _ => 0) False 0 (fun _ => 0) 0 (fun _ => 0) False (fun _ => 0) (fun _ => False) H locs ls ⟨⟨by decide, fun i h => by omega⟩, fun h => h.elim, fun h => h.elim⟩ (cd_Pl hP) (cd_Pr hP) hD hS (lv_sub hl [3, 2, 1, 0] rfl)
end
section
set_option maxHeartbeats 4000000 in
theorem lw_walk (l : Launch) (b : Addr) (xs : List Int32) : MetFree l x (headSpec (Jvm.Cond.code x code maxLocals ret :: tables_1) room_1) (lw_P b xs) (fun _ _ _ _ _ => True) lw_Q := by
  refine MetFree.of_bodyS (code := code) (maxLocals := maxLocals) (ret := ret) (by decide) ?_ ?_
  · intro args s m h hn
    obtain ⟨meth, c, h1, h2, h3, h4, h5, h6, -, -⟩ := Cond.code_spec hn (atoms_spec (ws := Jvm.Cond.code x code maxLocals ret :: tables_1) h _ List.mem_cons_self)
    exact ⟨meth, c, h1, h2, h3, h4, h5, h6⟩
  · intro p e s m args below meth c s₁ B hml0 hP _
    obtain ⟨rfl, hx, hbd, hgv⟩ := hP
    obtain ⟨scr, harrAt, hlist, hof, hsmall⟩ := hx
    obtain ⟨hcb, hkn, -, -⟩ := State.arrayAt?_spec harrAt
    have hown : s.vm.findClass R_law = some m.cls := findClass_of_methodNamed B.named
    have hts0 : ∀ c ∈ (Jvm.Cond.code x code maxLocals ret :: tables_1), c.before #[Value.ref b] s = true := atoms_spec (ws := Jvm.Cond.code x code maxLocals ret :: tables_1) B.pre
    have hts : ∀ w ∈ lw_tbl, w.before #[Value.ref b] s = true := k2_hts_sels lw_privs (fun w hw => hts0 w (List.mem_cons_of_mem _ hw)) lw_privs_ok
    have hml : c.maxLocals = 4 := B.maxLocals_eq (hts0 _ List.mem_cons_self)
    have X₀ : Stand p l e room_1 s m #[Value.ref b] below meth c s₁ [] 0 0 := Stand.of_body B
    have hh0 : s₁.heap = s.heap := by rw [B.state]; rfl
    have hsz : scr.slots.size = xs.length := by rw [← Array.length_toList, hlist, List.length_map]
    have hval : ∀ j : Nat, j < xs.length → scr.slots[j]? = some (.int (xs.getD j 0)) := fun j hj => by
      rw [← Array.getElem?_toList, hlist]
      simp [hj]
    have hbl : b < s.heap.size := (Array.getElem?_eq_some_iff.mp hcb).1
    have hX : va_X b xs.length (fun j => xs.getD j 0) s s.heap := ⟨scr, hcb, hof, hkn, hsz, hval⟩
    have K : W p l e room_1 s m #[Value.ref b] below meth c s₁.heap [] 0 0 (lw_Z below #[Value.ref b] s) (entryFrame m ([Value.ref b] : List Value).toArray 4) := by
      rw [hh0]
      exact whole_start l hbd ⟨B.exec, B.bytes, B.returns, hml, hown, hts, hX, hbl, B.notSynchronized, hgv⟩
    obtain ⟨t, a1, o, b1, b2, b3⟩ := K s₁ rfl X₀
    exact ⟨t, o, a1, b1, b2, b3⟩
theorem lw_pre_spec {args : Array Value} {s : State} (h : (Jvm.Cond.and given_1 narrow_1).before args s = true) (hr : rest_1_c.before args s = true) : ∃ (b : Addr) (xs : List Int32), lw_P b xs args s := by
  have hs := flat_of_before _ h
  have hq := flat_of_before _ hr
  have hc : (Cond.count 1).before args s = true := hs _ (by decide +kernel)
  have harr : (Cond.arrayOf (.arg 0) .int).before args s = true := hs _ (by decide +kernel)
  have hle : (Cond.le (.length (.arg 0)) (.int 256)).before args s = true := hs _ (by decide +kernel)
  have hlen : (Cond.isInt (.length (.arg 0))).before args s = true := hq _ (by decide +kernel)
  have hall : (Cond.all (.arg 0) (.isInt (.elem (.arg 0) (.index 0)))).before args s = true := hq _ (by decide +kernel)
  obtain ⟨b, xs, hb, hx⟩ := State.ints_of_pre rfl harr hlen hall
  have hsm : xs.length < 2 ^ 31 := hx.choose_spec.2.2.2
  have hev : (Term.length (.arg 0)).eval args s none [] s = some (.int xs.length.toInt32) := hx.length_eval hb
  have hv := Cond.le_ints hev (show (Term.int 256).eval args s none [] s = some (.int 256) from rfl)
  have hd : xs.length.toInt32 ≤ 256 := by
    simpa [Cond.before, Cond.holds, hv] using hle
  have hN : xs.length ≤ 256 := (Int32.ofNat_le_ofNat hsm (by decide)).mp (show Int32.ofNat xs.length ≤ Int32.ofNat 256 from hd)
  exact ⟨b, xs, Cond.one_arg hc (show args[0]? = some (.ref b) from hb), hx, hN, h⟩
theorem lw_comes (l : Launch) : Comes l x (Jvm.Cond.code x code maxLocals ret :: tables_1) room_1 (fun tb e args s => Calls_1 tb e args s ∧ rest_1 tb e args s ∧ Pre_1 tb e args s)
    (fun _ _ args s o t => lw_Q args s o t) := by
  intro p e ha hc hk s m args below hf hfit hheap happ hpre
  obtain ⟨b, xs, hP⟩ := lw_pre_spec hpre.2.2 hpre.2.1
  obtain ⟨k, o, h1, h2, h3, hQ⟩ := lw_walk l b xs p e ha hc hk s m args below hf ((Spec.applies_iff_loose hf).mp happ).1 hP trivial
  exact ⟨k, o, h1, h2, h3, hQ⟩
theorem lw_frame {s t : State} {o : Outcome} {args : Array Value} (h : Framed s o t [] 600000 7290000) :
    Framed s o t (fieldLocs frame_1_writes args s ++ arrayLocs frame_1_arrays args s ++ staticLocs frame_1_statics s) 600000 7290000 := h
theorem lw_limb (L : Cond) (hL : ∀ (args : Array Value) (s t : State), L.after args s (.returned (some (.int 1))) t = true) :
    ArmFor flags0 classFile x code maxLocals ret World_1 tables_1 room_1 Calls_1 rest_1 Pre_1
      (fun tb e a s o t => postC L tb e a s o t ∧ Framed s o t (fieldLocs frame_1_writes a s ++ arrayLocs frame_1_arrays a s ++ staticLocs frame_1_statics s) 600000 7290000) := by
  intro l _ _ _ p e ha hc hk s m args below hf hfit hheap happ hpre
  obtain ⟨k, o, h1, h2, h3, rfl, hF⟩ := lw_comes l p e ha hc hk s m args below hf hfit hheap happ hpre
  exact ⟨k, _, h1, h2, h3, hL args s _, lw_frame hF⟩
theorem i_vc : Claimed_1_1 ∧ Claimed_1_2 := ⟨lw_limb limb_1_1 (fun args s t => by simp [limb_1_1, Cond.after, Cond.holds, Cond.value]), lw_limb limb_1_2 (fun args s t => Cond.after_iff.mpr (by
  first | (rw [show limb_1_2 = Cond.eq .result (.int 1) from rfl, Cond.eq_ints (x := 1) (y := 1) rfl rfl]; simp; done) | (simp [limb_1_2, Cond.value, Term.eval]; done)))⟩
end
