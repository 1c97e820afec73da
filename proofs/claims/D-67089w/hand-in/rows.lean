section
-- ===== PART A: goes FIRST, ahead of the names: the tables' words, and 'selects' of the private methods out of them =====
/-- a private method of a class that the tables say can be made, by its rows of tables_1 -/
def lw_okq (q : MethodName × Nat) : Prop := (q.1.cls ≠ "java/lang/invoke/MethodHandle" ∧ q.1.cls ≠ "java/lang/invoke/VarHandle") ∧ Cond.instantiable q.1.cls q.2 ∈ tables_1 ∧ Cond.privateMethod q.1 ∈ tables_1 ∧ Cond.instanceMethod q.1 ∈ tables_1
set_option maxRecDepth 100000
theorem lw_t1 {w : Cond} (h : w ∈ tables_1_1) : w ∈ tables_1 := List.mem_append_left _ h
theorem lw_t2 {w : Cond} (h : w ∈ tables_1_2) : w ∈ tables_1 := List.mem_append_right _ h
theorem lw_p0 : lw_okq (⟨"Prime384", "sumOf", "([I[I[I)V"⟩, 12) := ⟨⟨by decide +kernel, by decide +kernel⟩, lw_t1 (List.mem_of_getElem? (i := 4) rfl), lw_t1 (List.mem_of_getElem? (i := 12) rfl), lw_t1 (List.mem_of_getElem? (i := 13) rfl)⟩
theorem lw_p1 : lw_okq (⟨"Prime384", "put", "(I[I)V"⟩, 12) := ⟨⟨by decide +kernel, by decide +kernel⟩, lw_t1 (List.mem_of_getElem? (i := 4) rfl), lw_t1 (List.mem_of_getElem? (i := 74) rfl), lw_t1 (List.mem_of_getElem? (i := 75) rfl)⟩
theorem lw_p2 : lw_okq (⟨"Prime384", "get", "(I[I)V"⟩, 12) := ⟨⟨by decide +kernel, by decide +kernel⟩, lw_t1 (List.mem_of_getElem? (i := 4) rfl), lw_t1 (List.mem_of_getElem? (i := 86) rfl), lw_t1 (List.mem_of_getElem? (i := 87) rfl)⟩
theorem lw_p3 : lw_okq (⟨"Prime384", "differenceOf", "([I[I[I)V"⟩, 12) := ⟨⟨by decide +kernel, by decide +kernel⟩, lw_t1 (List.mem_of_getElem? (i := 4) rfl), lw_t1 (List.mem_of_getElem? (i := 94) rfl), lw_t1 (List.mem_of_getElem? (i := 95) rfl)⟩
theorem lw_p4 : lw_okq (⟨"Prime384", "montgomery", "([I[I[I)V"⟩, 12) := ⟨⟨by decide +kernel, by decide +kernel⟩, lw_t1 (List.mem_of_getElem? (i := 4) rfl), lw_t1 (List.mem_of_getElem? (i := 102) rfl), lw_t1 (List.mem_of_getElem? (i := 103) rfl)⟩
theorem lw_p5 : lw_okq (⟨"Prime384", "addProduct", "(J[I)V"⟩, 12) := ⟨⟨by decide +kernel, by decide +kernel⟩, lw_t1 (List.mem_of_getElem? (i := 4) rfl), lw_t1 (List.mem_of_getElem? (i := 106) rfl), lw_t1 (List.mem_of_getElem? (i := 107) rfl)⟩
theorem lw_p6 : lw_okq (⟨"Prime384", "half", "([I)V"⟩, 12) := ⟨⟨by decide +kernel, by decide +kernel⟩, lw_t1 (List.mem_of_getElem? (i := 4) rfl), lw_t1 (List.mem_of_getElem? (i := 128) rfl), lw_t1 (List.mem_of_getElem? (i := 129) rfl)⟩
theorem lw_p7 : lw_okq (⟨"Prime384", "odd", "([I[I)V"⟩, 12) := ⟨⟨by decide +kernel, by decide +kernel⟩, lw_t1 (List.mem_of_getElem? (i := 4) rfl), lw_t1 (List.mem_of_getElem? (i := 146) rfl), lw_t1 (List.mem_of_getElem? (i := 147) rfl)⟩
theorem lw_p8 : lw_okq (⟨"Prime384Model", "fold", "([I[I)V"⟩, 12) := ⟨⟨by decide +kernel, by decide +kernel⟩, lw_t1 (List.mem_of_getElem? (i := 161) rfl), lw_t1 (List.mem_of_getElem? (i := 215) rfl), lw_t1 (List.mem_of_getElem? (i := 216) rfl)⟩
theorem lw_p9 : lw_okq (⟨"Prime384Model", "give", "(I[I)V"⟩, 12) := ⟨⟨by decide +kernel, by decide +kernel⟩, lw_t1 (List.mem_of_getElem? (i := 161) rfl), lw_t1 (List.mem_of_getElem? (i := 219) rfl), lw_t1 (List.mem_of_getElem? (i := 220) rfl)⟩
theorem lw_p10 : lw_okq (⟨"Prime384Model", "take", "([II)V"⟩, 12) := ⟨⟨by decide +kernel, by decide +kernel⟩, lw_t1 (List.mem_of_getElem? (i := 161) rfl), lw_t1 (List.mem_of_getElem? (i := 231) rfl), lw_t1 (List.mem_of_getElem? (i := 232) rfl)⟩
theorem lw_p11 : lw_okq (⟨"Prime384Model", "plus", "([I[I[I)V"⟩, 12) := ⟨⟨by decide +kernel, by decide +kernel⟩, lw_t1 (List.mem_of_getElem? (i := 161) rfl), lw_t1 (List.mem_of_getElem? (i := 235) rfl), lw_t1 (List.mem_of_getElem? (i := 236) rfl)⟩
theorem lw_p12 : lw_okq (⟨"Prime384Model", "minus", "([I[I)V"⟩, 12) := ⟨⟨by decide +kernel, by decide +kernel⟩, lw_t1 (List.mem_of_getElem? (i := 161) rfl), lw_t2 (List.mem_of_getElem? (i := 3) rfl), lw_t2 (List.mem_of_getElem? (i := 4) rfl)⟩
theorem lw_p13 : lw_okq (⟨"Prime384Model", "isZero", "([I)Z"⟩, 12) := ⟨⟨by decide +kernel, by decide +kernel⟩, lw_t1 (List.mem_of_getElem? (i := 161) rfl), lw_t2 (List.mem_of_getElem? (i := 7) rfl), lw_t2 (List.mem_of_getElem? (i := 8) rfl)⟩
theorem lw_p14 : lw_okq (⟨"Prime384Model", "times", "([I[I)V"⟩, 12) := ⟨⟨by decide +kernel, by decide +kernel⟩, lw_t1 (List.mem_of_getElem? (i := 161) rfl), lw_t2 (List.mem_of_getElem? (i := 15) rfl), lw_t2 (List.mem_of_getElem? (i := 16) rfl)⟩
theorem lw_p15 : lw_okq (⟨"Prime384Model", "copy", "([I[I)V"⟩, 12) := ⟨⟨by decide +kernel, by decide +kernel⟩, lw_t1 (List.mem_of_getElem? (i := 161) rfl), lw_t2 (List.mem_of_getElem? (i := 27) rfl), lw_t2 (List.mem_of_getElem? (i := 28) rfl)⟩
def lw_privs_1 : List (MethodName × Nat) := [(⟨"Prime384", "sumOf", "([I[I[I)V"⟩, 12), (⟨"Prime384", "put", "(I[I)V"⟩, 12), (⟨"Prime384", "get", "(I[I)V"⟩, 12), (⟨"Prime384", "differenceOf", "([I[I[I)V"⟩, 12), (⟨"Prime384", "montgomery", "([I[I[I)V"⟩, 12), (⟨"Prime384", "addProduct", "(J[I)V"⟩, 12), (⟨"Prime384", "half", "([I)V"⟩, 12), (⟨"Prime384", "odd", "([I[I)V"⟩, 12), (⟨"Prime384Model", "fold", "([I[I)V"⟩, 12), (⟨"Prime384Model", "give", "(I[I)V"⟩, 12), (⟨"Prime384Model", "take", "([II)V"⟩, 12), (⟨"Prime384Model", "plus", "([I[I[I)V"⟩, 12), (⟨"Prime384Model", "minus", "([I[I)V"⟩, 12), (⟨"Prime384Model", "isZero", "([I)Z"⟩, 12), (⟨"Prime384Model", "times", "([I[I)V"⟩, 12), (⟨"Prime384Model", "copy", "([I[I)V"⟩, 12)]
theorem lw_r1 : ∀ q ∈ lw_privs_1, lw_okq q := List.forall_mem_cons.mpr ⟨lw_p0, List.forall_mem_cons.mpr ⟨lw_p1, List.forall_mem_cons.mpr ⟨lw_p2, List.forall_mem_cons.mpr ⟨lw_p3, List.forall_mem_cons.mpr ⟨lw_p4, List.forall_mem_cons.mpr ⟨lw_p5, List.forall_mem_cons.mpr ⟨lw_p6, List.forall_mem_cons.mpr ⟨lw_p7, List.forall_mem_cons.mpr ⟨lw_p8, List.forall_mem_cons.mpr ⟨lw_p9, List.forall_mem_cons.mpr ⟨lw_p10, List.forall_mem_cons.mpr ⟨lw_p11, List.forall_mem_cons.mpr ⟨lw_p12, List.forall_mem_cons.mpr ⟨lw_p13, List.forall_mem_cons.mpr ⟨lw_p14, List.forall_mem_cons.mpr ⟨lw_p15, fun _ h => absurd h List.not_mem_nil⟩⟩⟩⟩⟩⟩⟩⟩⟩⟩⟩⟩⟩⟩⟩⟩
theorem lw_p16 : lw_okq (⟨"Prime384Model", "more", "([I)V"⟩, 12) := ⟨⟨by decide +kernel, by decide +kernel⟩, lw_t1 (List.mem_of_getElem? (i := 161) rfl), lw_t2 (List.mem_of_getElem? (i := 53) rfl), lw_t2 (List.mem_of_getElem? (i := 54) rfl)⟩
def lw_privs_2 : List (MethodName × Nat) := [(⟨"Prime384Model", "more", "([I)V"⟩, 12)]
theorem lw_r2 : ∀ q ∈ lw_privs_2, lw_okq q := List.forall_mem_cons.mpr ⟨lw_p16, fun _ h => absurd h List.not_mem_nil⟩
def lw_privs : List (MethodName × Nat) := lw_privs_1 ++ (lw_privs_2)
def lw_tbl : List Cond := k2_sels lw_privs ++ tables_1
theorem lw_privs_ok : ∀ q ∈ lw_privs, lw_okq q := by
  show ∀ q ∈ lw_privs_1 ++ (lw_privs_2), lw_okq q
  exact List.forall_mem_append.mpr ⟨lw_r1, lw_r2⟩
-- ===== ONE list of words for every method: the tables' words that hold all through a run =====
def lw_all : List Cond := lw_tbl.filter goodWord
/-- a word of the tables by its place: claim/WORDS.tsv -/
theorem lw_w {w : Cond} (i : Nat) (h : lw_tbl[i]? = some w) (g : goodWord w = true) : w ∈ lw_all := List.mem_filter.mpr ⟨List.mem_of_getElem? h, g⟩
theorem lw_all_tbl {w : Cond} (h : w ∈ lw_all) : w ∈ lw_tbl := (List.mem_filter.mp h).1
theorem lw_self : GoodIn lw_all lw_all := fun w h => ⟨h, good_of_word (List.mem_filter.mp h).2⟩
/-- a class's field words, by their places -/
theorem lw_in (ws : List Cond) (ps : List Nat) (hp : ws = ps.filterMap (fun i => lw_tbl[i]?)) (hg : ws.all goodWord = true) : ∀ w ∈ ws, w ∈ lw_all := by
  intro w h
  have h1 := List.all_eq_true.mp hg w h
  rw [hp] at h
  obtain ⟨i, -, hi⟩ := List.mem_filterMap.mp h
  exact lw_w i hi h1
/-- the words of a contract for the method y with code b, L locals, answer r -/
abbrev ws_ (y : MethodName) (b : ByteArray) (L : Nat) (r : Option FieldType) : List Cond := Cond.code y b L r :: lw_all
theorem lw_meth {y : MethodName} {b : ByteArray} {L : Nat} {r : Option FieldType} (h : Cond.code y b L r ∈ lw_all) : GoodIn lw_all (ws_ y b L r) := by
  intro w hw
  rcases List.mem_cons.mp hw with e | e
  · rw [e]
    exact lw_self _ h
  · exact lw_self _ e
theorem lw_app {a c : List Cond} (ha : ∀ w ∈ a, w ∈ lw_all) (hc : GoodIn lw_all c) : GoodIn lw_all (a ++ c) := by
  intro w hw
  rcases List.mem_append.mp hw with e | e
  · exact lw_self w (ha w e)
  · exact hc w e
/-- what a call through an object asks: cwV n hts (lw_V ..) -/
theorem lw_V {own : String} {idx : Nat} {C : String} {y : MethodName} {b : ByteArray} {L : Nat} {r : Option FieldType} (h1 : Cond.methodLink own idx y ∈ lw_all) (h2 : Cond.instanceMethod y ∈ lw_all) (h3 : Cond.selects C y y ∈ lw_all) (h4 : Cond.initialized C ∈ lw_all) (h5 : Cond.code y b L r ∈ lw_all) : GoodIn lw_all (wsV own idx C y (ws_ y b L r)) := by
  refine lw_app ?_ (lw_meth h5)
  intro w hw
  simp only [List.mem_cons, List.not_mem_nil, or_false] at hw
  rcases hw with e | e | e | e
  · rw [e]; exact h1
  · rw [e]; exact h2
  · rw [e]; exact h3
  · rw [e]; exact h4
/-- what a static call asks: va_cwS n hts (lw_S ..) -/
theorem lw_S {own : String} {idx : Nat} {y : MethodName} {b : ByteArray} {L : Nat} {r : Option FieldType} (h1 : Cond.methodLink own idx y ∈ lw_all) (h2 : Cond.static y ∈ lw_all) (h3 : Cond.initialized y.cls ∈ lw_all) (h4 : Cond.code y b L r ∈ lw_all) : GoodIn lw_all (va_wsS own idx y (ws_ y b L r)) := by
  refine lw_app ?_ (lw_meth h4)
  intro w hw
  simp only [List.mem_cons, List.not_mem_nil, or_false] at hw
  rcases hw with e | e | e
  · rw [e]; exact h1
  · rw [e]; exact h2
  · rw [e]; exact h3
/-- the words of a contract for a method WITH HANDLERS (hh: its table) -/
abbrev wsW_ (y : MethodName) (b : ByteArray) (L : Nat) (r : Option FieldType) (hh : List (Nat × Nat × Nat × Nat)) : List Cond := Cond.codeWith y b L r hh :: lw_all
theorem lw_methW {y : MethodName} {b : ByteArray} {L : Nat} {r : Option FieldType} {hh : List (Nat × Nat × Nat × Nat)} (h : Cond.codeWith y b L r hh ∈ lw_all) : GoodIn lw_all (wsW_ y b L r hh) := by
  intro w hw
  rcases List.mem_cons.mp hw with e | e
  · rw [e]
    exact lw_self _ h
  · exact lw_self _ e
/-- any list of words by their places (lw_in), good -/
theorem lw_good {ws : List Cond} (h : ∀ w ∈ ws, w ∈ lw_all) : GoodIn lw_all ws := fun w hw => lw_self w (h w hw)
/-- what a call of a method with handlers asks: vx_cwVW n hts (lw_VW ..), vx_cwSW n hts (lw_SW ..) -/
theorem lw_VW {own : String} {idx : Nat} {C : String} {y : MethodName} {b : ByteArray} {L : Nat} {r : Option FieldType} {hh : List (Nat × Nat × Nat × Nat)} (h1 : Cond.methodLink own idx y ∈ lw_all) (h2 : Cond.instanceMethod y ∈ lw_all) (h3 : Cond.selects C y y ∈ lw_all) (h4 : Cond.initialized C ∈ lw_all) (h5 : Cond.codeWith y b L r hh ∈ lw_all) : GoodIn lw_all (wsV own idx C y (wsW_ y b L r hh)) := by
  refine lw_app ?_ (lw_methW h5)
  intro w hw
  simp only [List.mem_cons, List.not_mem_nil, or_false] at hw
  rcases hw with e | e | e | e
  · rw [e]; exact h1
  · rw [e]; exact h2
  · rw [e]; exact h3
  · rw [e]; exact h4
theorem lw_SW {own : String} {idx : Nat} {y : MethodName} {b : ByteArray} {L : Nat} {r : Option FieldType} {hh : List (Nat × Nat × Nat × Nat)} (h1 : Cond.methodLink own idx y ∈ lw_all) (h2 : Cond.static y ∈ lw_all) (h3 : Cond.initialized y.cls ∈ lw_all) (h4 : Cond.codeWith y b L r hh ∈ lw_all) : GoodIn lw_all (va_wsS own idx y (wsW_ y b L r hh)) := by
  refine lw_app ?_ (lw_methW h4)
  intro w hw
  simp only [List.mem_cons, List.not_mem_nil, or_false] at hw
  rcases hw with e | e | e
  · rw [e]; exact h1
  · rw [e]; exact h2
  · rw [e]; exact h3
/-- a word by its place in its run of the tables -/
theorem lw_at {r : List Cond} (hr : ∀ w ∈ r, w ∈ lw_tbl) {w : Cond} (i : Nat) (h : r[i]? = some w) : w ∈ lw_tbl := hr w (List.mem_of_getElem? h)
theorem lw_g {w : Cond} (h : w ∈ lw_tbl) (g : goodWord w = true) : w ∈ lw_all := List.mem_filter.mpr ⟨h, g⟩
theorem lw_ms : ∀ w ∈ k2_sels lw_privs, w ∈ lw_tbl := fun w h => show w ∈ k2_sels lw_privs ++ tables_1 from List.mem_append_left _ h
theorem lw_m1 : ∀ w ∈ tables_1_1, w ∈ lw_tbl := fun w h => show w ∈ k2_sels lw_privs ++ tables_1 from List.mem_append_right (k2_sels lw_privs) (show w ∈ tables_1 from List.mem_append_left _ h)
theorem lw_m2 : ∀ w ∈ tables_1_2, w ∈ lw_tbl := fun w h => show w ∈ k2_sels lw_privs ++ tables_1 from List.mem_append_right (k2_sels lw_privs) (show w ∈ tables_1 from List.mem_append_right _ h)
theorem qs0 : (Cond.selects "Prime384" ⟨"Prime384", "sumOf", "([I[I[I)V"⟩ ⟨"Prime384", "sumOf", "([I[I[I)V"⟩) ∈ lw_all := lw_g (lw_at lw_ms 0 rfl) rfl
theorem qs1 : (Cond.selects "Prime384" ⟨"Prime384", "put", "(I[I)V"⟩ ⟨"Prime384", "put", "(I[I)V"⟩) ∈ lw_all := lw_g (lw_at lw_ms 1 rfl) rfl
theorem qs2 : (Cond.selects "Prime384" ⟨"Prime384", "get", "(I[I)V"⟩ ⟨"Prime384", "get", "(I[I)V"⟩) ∈ lw_all := lw_g (lw_at lw_ms 2 rfl) rfl
theorem qs3 : (Cond.selects "Prime384" ⟨"Prime384", "differenceOf", "([I[I[I)V"⟩ ⟨"Prime384", "differenceOf", "([I[I[I)V"⟩) ∈ lw_all := lw_g (lw_at lw_ms 3 rfl) rfl
theorem qs4 : (Cond.selects "Prime384" ⟨"Prime384", "montgomery", "([I[I[I)V"⟩ ⟨"Prime384", "montgomery", "([I[I[I)V"⟩) ∈ lw_all := lw_g (lw_at lw_ms 4 rfl) rfl
theorem qs5 : (Cond.selects "Prime384" ⟨"Prime384", "addProduct", "(J[I)V"⟩ ⟨"Prime384", "addProduct", "(J[I)V"⟩) ∈ lw_all := lw_g (lw_at lw_ms 5 rfl) rfl
theorem qs6 : (Cond.selects "Prime384" ⟨"Prime384", "half", "([I)V"⟩ ⟨"Prime384", "half", "([I)V"⟩) ∈ lw_all := lw_g (lw_at lw_ms 6 rfl) rfl
theorem qs7 : (Cond.selects "Prime384" ⟨"Prime384", "odd", "([I[I)V"⟩ ⟨"Prime384", "odd", "([I[I)V"⟩) ∈ lw_all := lw_g (lw_at lw_ms 7 rfl) rfl
theorem qs8 : (Cond.selects "Prime384Model" ⟨"Prime384Model", "fold", "([I[I)V"⟩ ⟨"Prime384Model", "fold", "([I[I)V"⟩) ∈ lw_all := lw_g (lw_at lw_ms 8 rfl) rfl
theorem qs9 : (Cond.selects "Prime384Model" ⟨"Prime384Model", "give", "(I[I)V"⟩ ⟨"Prime384Model", "give", "(I[I)V"⟩) ∈ lw_all := lw_g (lw_at lw_ms 9 rfl) rfl
theorem qs10 : (Cond.selects "Prime384Model" ⟨"Prime384Model", "take", "([II)V"⟩ ⟨"Prime384Model", "take", "([II)V"⟩) ∈ lw_all := lw_g (lw_at lw_ms 10 rfl) rfl
theorem qs11 : (Cond.selects "Prime384Model" ⟨"Prime384Model", "plus", "([I[I[I)V"⟩ ⟨"Prime384Model", "plus", "([I[I[I)V"⟩) ∈ lw_all := lw_g (lw_at lw_ms 11 rfl) rfl
theorem qs12 : (Cond.selects "Prime384Model" ⟨"Prime384Model", "minus", "([I[I)V"⟩ ⟨"Prime384Model", "minus", "([I[I)V"⟩) ∈ lw_all := lw_g (lw_at lw_ms 12 rfl) rfl
theorem qs13 : (Cond.selects "Prime384Model" ⟨"Prime384Model", "isZero", "([I)Z"⟩ ⟨"Prime384Model", "isZero", "([I)Z"⟩) ∈ lw_all := lw_g (lw_at lw_ms 13 rfl) rfl
theorem qs14 : (Cond.selects "Prime384Model" ⟨"Prime384Model", "times", "([I[I)V"⟩ ⟨"Prime384Model", "times", "([I[I)V"⟩) ∈ lw_all := lw_g (lw_at lw_ms 14 rfl) rfl
theorem qs15 : (Cond.selects "Prime384Model" ⟨"Prime384Model", "copy", "([I[I)V"⟩ ⟨"Prime384Model", "copy", "([I[I)V"⟩) ∈ lw_all := lw_g (lw_at lw_ms 15 rfl) rfl
theorem qs16 : (Cond.selects "Prime384Model" ⟨"Prime384Model", "more", "([I)V"⟩ ⟨"Prime384Model", "more", "([I)V"⟩) ∈ lw_all := lw_g (lw_at lw_ms 16 rfl) rfl
end
section
set_option maxRecDepth 100000
theorem q79 : (Jvm.Cond.arrayClass Jvm.ClassFile.FieldType.int) ∈ lw_all := lw_g (lw_at lw_m1 62 rfl) rfl
theorem q80 : (Jvm.Cond.arrayClass Jvm.ClassFile.FieldType.long) ∈ lw_all := lw_g (lw_at lw_m1 63 rfl) rfl

/-! java/lang/Object -/
set_option maxRecDepth 100000
def RJ0 : String := "java/lang/Object"
abbrev cJ0_init : ByteArray := object_method_1_code
def yJ0_init : MethodName := ⟨RJ0, "<init>", "()V"⟩
theorem dJ0_init_0 : decode cJ0_init 0 = .ok (.return_, 1) := by decide +kernel
theorem q26 : (Jvm.Cond.instanceMethod ({ cls := "java/lang/Object", name := "<init>", desc := "()V" } : Jvm.MethodName)) ∈ lw_all := lw_g (lw_at lw_m1 9 rfl) rfl
theorem q27 : (Jvm.Cond.code ({ cls := "java/lang/Object", name := "<init>", desc := "()V" } : Jvm.MethodName) object_method_1_code (1 : Nat) (Option.none : Option Jvm.ClassFile.FieldType)) ∈ lw_all := lw_g (lw_at lw_m1 10 rfl) rfl
end
section
/-! Prime384 -/
set_option maxRecDepth 100000
def RX0 : String := "Prime384"
def TX0 : u_T := fun k => match k with
  | 0 => ("Prime384", "register", "[I", true)
  | 1 => ("Prime384", "line", "[I", true)
  | 2 => ("Prime384", "prime", "[I", true)
  | 3 => ("Prime384", "square", "[I", true)
  | 4 => ("Prime384", "sum", "[J", true)
  | 5 => ("Prime384", "one", "[I", true)
  | 6 => ("Prime384", "two", "[I", true)
  | 7 => ("Prime384", "out", "[I", true)
  | 8 => ("Prime384", "u", "[I", true)
  | 9 => ("Prime384", "v", "[I", true)
  | 10 => ("Prime384", "x", "[I", true)
  | _ => ("Prime384", "y", "[I", true)
def tyX0 : Nat → FieldType := fun k => match k with
  | 0 => .array .int
  | 1 => .array .int
  | 2 => .array .int
  | 3 => .array .int
  | 4 => .array .long
  | 5 => .array .int
  | 6 => .array .int
  | 7 => .array .int
  | 8 => .array .int
  | 9 => .array .int
  | 10 => .array .int
  | _ => .array .int
abbrev wsX00 : List Cond := u_ws RX0 TX0 12
theorem nmX0 : ∀ a, a < 12 → ∀ b, b < 12 → a ≠ b → (TX0 a).2.1 ≠ (TX0 b).2.1 := by decide +kernel
theorem tyX0_ok : ∀ k, k < 12 → parseFieldDescriptor (TX0 k).2.2.1 = some (tyX0 k) := by decide +kernel
abbrev cX0_init : ByteArray := prog_1_method_1_code
def yX0_init : MethodName := ⟨RX0, "<init>", "()V"⟩
abbrev cX0_sumOf : ByteArray := prog_1_method_9_code
def yX0_sumOf : MethodName := ⟨RX0, "sumOf", "([I[I[I)V"⟩
abbrev cX0_plus : ByteArray := prog_1_method_7_code
def yX0_plus : MethodName := ⟨RX0, "plus", "([I[I[I)I"⟩
abbrev cX0_isLess : ByteArray := prog_1_method_5_code
def yX0_isLess : MethodName := ⟨RX0, "isLess", "([I[I)Z"⟩
abbrev cX0_minus : ByteArray := prog_1_method_8_code
def yX0_minus : MethodName := ⟨RX0, "minus", "([I[I[I)I"⟩
abbrev cX0_line : ByteArray := prog_1_method_2_code
def yX0_line : MethodName := ⟨RX0, "line", "(IIIII)V"⟩
abbrev cX0_load : ByteArray := prog_1_method_14_code
def yX0_load : MethodName := ⟨RX0, "load", "(I)Z"⟩
abbrev cX0_put : ByteArray := prog_1_method_4_code
def yX0_put : MethodName := ⟨RX0, "put", "(I[I)V"⟩
abbrev cX0_word : ByteArray := prog_1_method_15_code
def yX0_word : MethodName := ⟨RX0, "word", "(II)I"⟩
abbrev cX0_add : ByteArray := prog_1_method_16_code
def yX0_add : MethodName := ⟨RX0, "add", "(III)V"⟩
abbrev cX0_get : ByteArray := prog_1_method_3_code
def yX0_get : MethodName := ⟨RX0, "get", "(I[I)V"⟩
abbrev cX0_subtract : ByteArray := prog_1_method_17_code
def yX0_subtract : MethodName := ⟨RX0, "subtract", "(III)V"⟩
abbrev cX0_differenceOf : ByteArray := prog_1_method_10_code
def yX0_differenceOf : MethodName := ⟨RX0, "differenceOf", "([I[I[I)V"⟩
abbrev cX0_multiply : ByteArray := prog_1_method_18_code
def yX0_multiply : MethodName := ⟨RX0, "multiply", "(III)V"⟩
abbrev cX0_montgomery : ByteArray := prog_1_method_13_code
def yX0_montgomery : MethodName := ⟨RX0, "montgomery", "([I[I[I)V"⟩
abbrev cX0_addProduct : ByteArray := prog_1_method_12_code
def yX0_addProduct : MethodName := ⟨RX0, "addProduct", "(J[I)V"⟩
abbrev cX0_square : ByteArray := prog_1_method_19_code
def yX0_square : MethodName := ⟨RX0, "square", "(II)V"⟩
abbrev cX0_squares : ByteArray := prog_1_method_20_code
def yX0_squares : MethodName := ⟨RX0, "squares", "(III)V"⟩
abbrev cX0_twice : ByteArray := prog_1_method_21_code
def yX0_twice : MethodName := ⟨RX0, "twice", "(II)V"⟩
abbrev cX0_halve : ByteArray := prog_1_method_22_code
def yX0_halve : MethodName := ⟨RX0, "halve", "(II)V"⟩
abbrev cX0_half : ByteArray := prog_1_method_11_code
def yX0_half : MethodName := ⟨RX0, "half", "([I)V"⟩
abbrev cX0_negate : ByteArray := prog_1_method_23_code
def yX0_negate : MethodName := ⟨RX0, "negate", "(II)V"⟩
abbrev cX0_invert : ByteArray := prog_1_method_27_code
def yX0_invert : MethodName := ⟨RX0, "invert", "(II)Z"⟩
abbrev cX0_isZero : ByteArray := prog_1_method_6_code
def yX0_isZero : MethodName := ⟨RX0, "isZero", "([I)Z"⟩
abbrev cX0_isOne : ByteArray := prog_1_method_24_code
def yX0_isOne : MethodName := ⟨RX0, "isOne", "([I)Z"⟩
abbrev cX0_odd : ByteArray := prog_1_method_26_code
def yX0_odd : MethodName := ⟨RX0, "odd", "([I[I)V"⟩
abbrev cX0_shift : ByteArray := prog_1_method_25_code
def yX0_shift : MethodName := ⟨RX0, "shift", "([I)V"⟩
abbrev cX0_zero : ByteArray := prog_1_method_28_code
def yX0_zero : MethodName := ⟨RX0, "zero", "(I)Z"⟩
abbrev cX0_carry : ByteArray := prog_1_method_29_code
def yX0_carry : MethodName := ⟨RX0, "carry", "(II)V"⟩
theorem q18 : (Jvm.Cond.initialized "Prime384") ∈ lw_all := lw_g (lw_at lw_m1 1 rfl) rfl
theorem q21 : (Jvm.Cond.instantiable "Prime384" (12 : Nat)) ∈ lw_all := lw_g (lw_at lw_m1 4 rfl) rfl
theorem q23 : (Jvm.Cond.instanceMethod ({ cls := "Prime384", name := "<init>", desc := "()V" } : Jvm.MethodName)) ∈ lw_all := lw_g (lw_at lw_m1 6 rfl) rfl
theorem q24 : (Jvm.Cond.code ({ cls := "Prime384", name := "<init>", desc := "()V" } : Jvm.MethodName) prog_1_method_1_code (2 : Nat) (Option.none : Option Jvm.ClassFile.FieldType)) ∈ lw_all := lw_g (lw_at lw_m1 7 rfl) rfl
theorem q25 : (Jvm.Cond.methodLink "Prime384" (1 : Nat) ({ cls := "java/lang/Object", name := "<init>", desc := "()V" } : Jvm.MethodName)) ∈ lw_all := lw_g (lw_at lw_m1 8 rfl) rfl
theorem q28 : (Jvm.Cond.methodLink "Prime384" (47 : Nat) ({ cls := "Prime384", name := "sumOf", desc := "([I[I[I)V" } : Jvm.MethodName)) ∈ lw_all := lw_g (lw_at lw_m1 11 rfl) rfl
theorem q29 : (Jvm.Cond.privateMethod ({ cls := "Prime384", name := "sumOf", desc := "([I[I[I)V" } : Jvm.MethodName)) ∈ lw_tbl := lw_at lw_m1 12 rfl
theorem q30 : (Jvm.Cond.instanceMethod ({ cls := "Prime384", name := "sumOf", desc := "([I[I[I)V" } : Jvm.MethodName)) ∈ lw_all := lw_g (lw_at lw_m1 13 rfl) rfl
theorem q31 : (Jvm.Cond.code ({ cls := "Prime384", name := "sumOf", desc := "([I[I[I)V" } : Jvm.MethodName) prog_1_method_9_code (5 : Nat) (Option.none : Option Jvm.ClassFile.FieldType)) ∈ lw_all := lw_g (lw_at lw_m1 14 rfl) rfl
theorem q32 : (Jvm.Cond.methodLink "Prime384" (54 : Nat) ({ cls := "Prime384", name := "plus", desc := "([I[I[I)I" } : Jvm.MethodName)) ∈ lw_all := lw_g (lw_at lw_m1 15 rfl) rfl
theorem q33 : (Jvm.Cond.static ({ cls := "Prime384", name := "plus", desc := "([I[I[I)I" } : Jvm.MethodName)) ∈ lw_all := lw_g (lw_at lw_m1 16 rfl) rfl
theorem q34 : (Jvm.Cond.code ({ cls := "Prime384", name := "plus", desc := "([I[I[I)I" } : Jvm.MethodName) prog_1_method_7_code (6 : Nat) (Option.some Jvm.ClassFile.FieldType.int)) ∈ lw_all := lw_g (lw_at lw_m1 17 rfl) rfl
theorem q35 : (Jvm.Cond.constantLong "Prime384" (52 : Nat) (4294967295 : Int64)) ∈ lw_all := lw_g (lw_at lw_m1 18 rfl) rfl
theorem q36 : (Jvm.Cond.methodLink "Prime384" (58 : Nat) ({ cls := "Prime384", name := "isLess", desc := "([I[I)Z" } : Jvm.MethodName)) ∈ lw_all := lw_g (lw_at lw_m1 19 rfl) rfl
theorem q37 : (Jvm.Cond.static ({ cls := "Prime384", name := "isLess", desc := "([I[I)Z" } : Jvm.MethodName)) ∈ lw_all := lw_g (lw_at lw_m1 20 rfl) rfl
theorem q38 : (Jvm.Cond.code ({ cls := "Prime384", name := "isLess", desc := "([I[I)Z" } : Jvm.MethodName) prog_1_method_5_code (3 : Nat) (Option.some Jvm.ClassFile.FieldType.boolean)) ∈ lw_all := lw_g (lw_at lw_m1 21 rfl) rfl
theorem q39 : (Jvm.Cond.methodLink "Prime384" (62 : Nat) ({ cls := "Prime384", name := "minus", desc := "([I[I[I)I" } : Jvm.MethodName)) ∈ lw_all := lw_g (lw_at lw_m1 22 rfl) rfl
theorem q40 : (Jvm.Cond.static ({ cls := "Prime384", name := "minus", desc := "([I[I[I)I" } : Jvm.MethodName)) ∈ lw_all := lw_g (lw_at lw_m1 23 rfl) rfl
theorem q41 : (Jvm.Cond.code ({ cls := "Prime384", name := "minus", desc := "([I[I[I)I" } : Jvm.MethodName) prog_1_method_8_code (6 : Nat) (Option.some Jvm.ClassFile.FieldType.int)) ∈ lw_all := lw_g (lw_at lw_m1 24 rfl) rfl
theorem q42 : (Jvm.Cond.fieldLink "Prime384" (9 : Nat) "Prime384" "register" "[I") ∈ lw_all := lw_g (lw_at lw_m1 25 rfl) rfl
theorem q43 : (Jvm.Cond.fieldLink "Prime384" (13 : Nat) "Prime384" "line" "[I") ∈ lw_all := lw_g (lw_at lw_m1 26 rfl) rfl
theorem q44 : (Jvm.Cond.fieldLink "Prime384" (16 : Nat) "Prime384" "prime" "[I") ∈ lw_all := lw_g (lw_at lw_m1 27 rfl) rfl
theorem q45 : (Jvm.Cond.fieldLink "Prime384" (19 : Nat) "Prime384" "square" "[I") ∈ lw_all := lw_g (lw_at lw_m1 28 rfl) rfl
theorem q46 : (Jvm.Cond.fieldLink "Prime384" (22 : Nat) "Prime384" "sum" "[J") ∈ lw_all := lw_g (lw_at lw_m1 29 rfl) rfl
theorem q47 : (Jvm.Cond.fieldLink "Prime384" (26 : Nat) "Prime384" "one" "[I") ∈ lw_all := lw_g (lw_at lw_m1 30 rfl) rfl
theorem q48 : (Jvm.Cond.fieldLink "Prime384" (29 : Nat) "Prime384" "two" "[I") ∈ lw_all := lw_g (lw_at lw_m1 31 rfl) rfl
theorem q49 : (Jvm.Cond.fieldLink "Prime384" (32 : Nat) "Prime384" "out" "[I") ∈ lw_all := lw_g (lw_at lw_m1 32 rfl) rfl
theorem q50 : (Jvm.Cond.fieldLink "Prime384" (35 : Nat) "Prime384" "u" "[I") ∈ lw_all := lw_g (lw_at lw_m1 33 rfl) rfl
theorem q51 : (Jvm.Cond.fieldLink "Prime384" (38 : Nat) "Prime384" "v" "[I") ∈ lw_all := lw_g (lw_at lw_m1 34 rfl) rfl
theorem q52 : (Jvm.Cond.fieldLink "Prime384" (41 : Nat) "Prime384" "x" "[I") ∈ lw_all := lw_g (lw_at lw_m1 35 rfl) rfl
theorem q53 : (Jvm.Cond.fieldLink "Prime384" (44 : Nat) "Prime384" "y" "[I") ∈ lw_all := lw_g (lw_at lw_m1 36 rfl) rfl
theorem q54 : (Jvm.Cond.laysFinal "Prime384" "Prime384" "register" "[I") ∈ lw_all := lw_g (lw_at lw_m1 37 rfl) rfl
theorem q55 : (Jvm.Cond.soleField "Prime384" "register") ∈ lw_all := lw_g (lw_at lw_m1 38 rfl) rfl
theorem q56 : (Jvm.Cond.laysFinal "Prime384" "Prime384" "line" "[I") ∈ lw_all := lw_g (lw_at lw_m1 39 rfl) rfl
theorem q57 : (Jvm.Cond.soleField "Prime384" "line") ∈ lw_all := lw_g (lw_at lw_m1 40 rfl) rfl
theorem q58 : (Jvm.Cond.laysFinal "Prime384" "Prime384" "prime" "[I") ∈ lw_all := lw_g (lw_at lw_m1 41 rfl) rfl
theorem q59 : (Jvm.Cond.soleField "Prime384" "prime") ∈ lw_all := lw_g (lw_at lw_m1 42 rfl) rfl
theorem q60 : (Jvm.Cond.laysFinal "Prime384" "Prime384" "square" "[I") ∈ lw_all := lw_g (lw_at lw_m1 43 rfl) rfl
theorem q61 : (Jvm.Cond.soleField "Prime384" "square") ∈ lw_all := lw_g (lw_at lw_m1 44 rfl) rfl
theorem q62 : (Jvm.Cond.laysFinal "Prime384" "Prime384" "sum" "[J") ∈ lw_all := lw_g (lw_at lw_m1 45 rfl) rfl
theorem q63 : (Jvm.Cond.soleField "Prime384" "sum") ∈ lw_all := lw_g (lw_at lw_m1 46 rfl) rfl
theorem q64 : (Jvm.Cond.laysFinal "Prime384" "Prime384" "one" "[I") ∈ lw_all := lw_g (lw_at lw_m1 47 rfl) rfl
theorem q65 : (Jvm.Cond.soleField "Prime384" "one") ∈ lw_all := lw_g (lw_at lw_m1 48 rfl) rfl
theorem q66 : (Jvm.Cond.laysFinal "Prime384" "Prime384" "two" "[I") ∈ lw_all := lw_g (lw_at lw_m1 49 rfl) rfl
theorem q67 : (Jvm.Cond.soleField "Prime384" "two") ∈ lw_all := lw_g (lw_at lw_m1 50 rfl) rfl
theorem q68 : (Jvm.Cond.laysFinal "Prime384" "Prime384" "out" "[I") ∈ lw_all := lw_g (lw_at lw_m1 51 rfl) rfl
theorem q69 : (Jvm.Cond.soleField "Prime384" "out") ∈ lw_all := lw_g (lw_at lw_m1 52 rfl) rfl
theorem q70 : (Jvm.Cond.laysFinal "Prime384" "Prime384" "u" "[I") ∈ lw_all := lw_g (lw_at lw_m1 53 rfl) rfl
theorem q71 : (Jvm.Cond.soleField "Prime384" "u") ∈ lw_all := lw_g (lw_at lw_m1 54 rfl) rfl
theorem q72 : (Jvm.Cond.laysFinal "Prime384" "Prime384" "v" "[I") ∈ lw_all := lw_g (lw_at lw_m1 55 rfl) rfl
theorem q73 : (Jvm.Cond.soleField "Prime384" "v") ∈ lw_all := lw_g (lw_at lw_m1 56 rfl) rfl
theorem q74 : (Jvm.Cond.laysFinal "Prime384" "Prime384" "x" "[I") ∈ lw_all := lw_g (lw_at lw_m1 57 rfl) rfl
theorem q75 : (Jvm.Cond.soleField "Prime384" "x") ∈ lw_all := lw_g (lw_at lw_m1 58 rfl) rfl
theorem q76 : (Jvm.Cond.laysFinal "Prime384" "Prime384" "y" "[I") ∈ lw_all := lw_g (lw_at lw_m1 59 rfl) rfl
theorem q77 : (Jvm.Cond.soleField "Prime384" "y") ∈ lw_all := lw_g (lw_at lw_m1 60 rfl) rfl
theorem q78 : (Jvm.Cond.superclass "Prime384" "java/lang/Object") ∈ lw_all := lw_g (lw_at lw_m1 61 rfl) rfl
theorem q82 : (Jvm.Cond.instanceMethod ({ cls := "Prime384", name := "line", desc := "(IIIII)V" } : Jvm.MethodName)) ∈ lw_all := lw_g (lw_at lw_m1 65 rfl) rfl
theorem q83 : (Jvm.Cond.selects "Prime384" ({ cls := "Prime384", name := "line", desc := "(IIIII)V" } : Jvm.MethodName) ({ cls := "Prime384", name := "line", desc := "(IIIII)V" } : Jvm.MethodName)) ∈ lw_all := lw_g (lw_at lw_m1 66 rfl) rfl
theorem q84 : (Jvm.Cond.code ({ cls := "Prime384", name := "line", desc := "(IIIII)V" } : Jvm.MethodName) prog_1_method_2_code (7 : Nat) (Option.none : Option Jvm.ClassFile.FieldType)) ∈ lw_all := lw_g (lw_at lw_m1 67 rfl) rfl
theorem q85 : (Jvm.Cond.constant "Prime384" (51 : Nat) (2147483647 : Int32)) ∈ lw_all := lw_g (lw_at lw_m1 68 rfl) rfl
theorem q87 : (Jvm.Cond.instanceMethod ({ cls := "Prime384", name := "load", desc := "(I)Z" } : Jvm.MethodName)) ∈ lw_all := lw_g (lw_at lw_m1 70 rfl) rfl
theorem q88 : (Jvm.Cond.selects "Prime384" ({ cls := "Prime384", name := "load", desc := "(I)Z" } : Jvm.MethodName) ({ cls := "Prime384", name := "load", desc := "(I)Z" } : Jvm.MethodName)) ∈ lw_all := lw_g (lw_at lw_m1 71 rfl) rfl
theorem q89 : (Jvm.Cond.code ({ cls := "Prime384", name := "load", desc := "(I)Z" } : Jvm.MethodName) prog_1_method_14_code (4 : Nat) (Option.some Jvm.ClassFile.FieldType.boolean)) ∈ lw_all := lw_g (lw_at lw_m1 72 rfl) rfl
theorem q90 : (Jvm.Cond.methodLink "Prime384" (69 : Nat) ({ cls := "Prime384", name := "put", desc := "(I[I)V" } : Jvm.MethodName)) ∈ lw_all := lw_g (lw_at lw_m1 73 rfl) rfl
theorem q91 : (Jvm.Cond.privateMethod ({ cls := "Prime384", name := "put", desc := "(I[I)V" } : Jvm.MethodName)) ∈ lw_tbl := lw_at lw_m1 74 rfl
theorem q92 : (Jvm.Cond.instanceMethod ({ cls := "Prime384", name := "put", desc := "(I[I)V" } : Jvm.MethodName)) ∈ lw_all := lw_g (lw_at lw_m1 75 rfl) rfl
theorem q93 : (Jvm.Cond.code ({ cls := "Prime384", name := "put", desc := "(I[I)V" } : Jvm.MethodName) prog_1_method_4_code (5 : Nat) (Option.none : Option Jvm.ClassFile.FieldType)) ∈ lw_all := lw_g (lw_at lw_m1 76 rfl) rfl
theorem q95 : (Jvm.Cond.instanceMethod ({ cls := "Prime384", name := "word", desc := "(II)I" } : Jvm.MethodName)) ∈ lw_all := lw_g (lw_at lw_m1 78 rfl) rfl
theorem q96 : (Jvm.Cond.selects "Prime384" ({ cls := "Prime384", name := "word", desc := "(II)I" } : Jvm.MethodName) ({ cls := "Prime384", name := "word", desc := "(II)I" } : Jvm.MethodName)) ∈ lw_all := lw_g (lw_at lw_m1 79 rfl) rfl
theorem q97 : (Jvm.Cond.code ({ cls := "Prime384", name := "word", desc := "(II)I" } : Jvm.MethodName) prog_1_method_15_code (3 : Nat) (Option.some Jvm.ClassFile.FieldType.int)) ∈ lw_all := lw_g (lw_at lw_m1 80 rfl) rfl
theorem q99 : (Jvm.Cond.instanceMethod ({ cls := "Prime384", name := "add", desc := "(III)V" } : Jvm.MethodName)) ∈ lw_all := lw_g (lw_at lw_m1 82 rfl) rfl
theorem q100 : (Jvm.Cond.selects "Prime384" ({ cls := "Prime384", name := "add", desc := "(III)V" } : Jvm.MethodName) ({ cls := "Prime384", name := "add", desc := "(III)V" } : Jvm.MethodName)) ∈ lw_all := lw_g (lw_at lw_m1 83 rfl) rfl
theorem q101 : (Jvm.Cond.code ({ cls := "Prime384", name := "add", desc := "(III)V" } : Jvm.MethodName) prog_1_method_16_code (4 : Nat) (Option.none : Option Jvm.ClassFile.FieldType)) ∈ lw_all := lw_g (lw_at lw_m1 84 rfl) rfl
theorem q102 : (Jvm.Cond.methodLink "Prime384" (73 : Nat) ({ cls := "Prime384", name := "get", desc := "(I[I)V" } : Jvm.MethodName)) ∈ lw_all := lw_g (lw_at lw_m1 85 rfl) rfl
theorem q103 : (Jvm.Cond.privateMethod ({ cls := "Prime384", name := "get", desc := "(I[I)V" } : Jvm.MethodName)) ∈ lw_tbl := lw_at lw_m1 86 rfl
theorem q104 : (Jvm.Cond.instanceMethod ({ cls := "Prime384", name := "get", desc := "(I[I)V" } : Jvm.MethodName)) ∈ lw_all := lw_g (lw_at lw_m1 87 rfl) rfl
theorem q105 : (Jvm.Cond.code ({ cls := "Prime384", name := "get", desc := "(I[I)V" } : Jvm.MethodName) prog_1_method_3_code (5 : Nat) (Option.none : Option Jvm.ClassFile.FieldType)) ∈ lw_all := lw_g (lw_at lw_m1 88 rfl) rfl
theorem q107 : (Jvm.Cond.instanceMethod ({ cls := "Prime384", name := "subtract", desc := "(III)V" } : Jvm.MethodName)) ∈ lw_all := lw_g (lw_at lw_m1 90 rfl) rfl
theorem q108 : (Jvm.Cond.selects "Prime384" ({ cls := "Prime384", name := "subtract", desc := "(III)V" } : Jvm.MethodName) ({ cls := "Prime384", name := "subtract", desc := "(III)V" } : Jvm.MethodName)) ∈ lw_all := lw_g (lw_at lw_m1 91 rfl) rfl
theorem q109 : (Jvm.Cond.code ({ cls := "Prime384", name := "subtract", desc := "(III)V" } : Jvm.MethodName) prog_1_method_17_code (4 : Nat) (Option.none : Option Jvm.ClassFile.FieldType)) ∈ lw_all := lw_g (lw_at lw_m1 92 rfl) rfl
theorem q110 : (Jvm.Cond.methodLink "Prime384" (76 : Nat) ({ cls := "Prime384", name := "differenceOf", desc := "([I[I[I)V" } : Jvm.MethodName)) ∈ lw_all := lw_g (lw_at lw_m1 93 rfl) rfl
theorem q111 : (Jvm.Cond.privateMethod ({ cls := "Prime384", name := "differenceOf", desc := "([I[I[I)V" } : Jvm.MethodName)) ∈ lw_tbl := lw_at lw_m1 94 rfl
theorem q112 : (Jvm.Cond.instanceMethod ({ cls := "Prime384", name := "differenceOf", desc := "([I[I[I)V" } : Jvm.MethodName)) ∈ lw_all := lw_g (lw_at lw_m1 95 rfl) rfl
theorem q113 : (Jvm.Cond.code ({ cls := "Prime384", name := "differenceOf", desc := "([I[I[I)V" } : Jvm.MethodName) prog_1_method_10_code (4 : Nat) (Option.none : Option Jvm.ClassFile.FieldType)) ∈ lw_all := lw_g (lw_at lw_m1 96 rfl) rfl
theorem q115 : (Jvm.Cond.instanceMethod ({ cls := "Prime384", name := "multiply", desc := "(III)V" } : Jvm.MethodName)) ∈ lw_all := lw_g (lw_at lw_m1 98 rfl) rfl
theorem q116 : (Jvm.Cond.selects "Prime384" ({ cls := "Prime384", name := "multiply", desc := "(III)V" } : Jvm.MethodName) ({ cls := "Prime384", name := "multiply", desc := "(III)V" } : Jvm.MethodName)) ∈ lw_all := lw_g (lw_at lw_m1 99 rfl) rfl
theorem q117 : (Jvm.Cond.code ({ cls := "Prime384", name := "multiply", desc := "(III)V" } : Jvm.MethodName) prog_1_method_18_code (4 : Nat) (Option.none : Option Jvm.ClassFile.FieldType)) ∈ lw_all := lw_g (lw_at lw_m1 100 rfl) rfl
theorem q118 : (Jvm.Cond.methodLink "Prime384" (79 : Nat) ({ cls := "Prime384", name := "montgomery", desc := "([I[I[I)V" } : Jvm.MethodName)) ∈ lw_all := lw_g (lw_at lw_m1 101 rfl) rfl
theorem q119 : (Jvm.Cond.privateMethod ({ cls := "Prime384", name := "montgomery", desc := "([I[I[I)V" } : Jvm.MethodName)) ∈ lw_tbl := lw_at lw_m1 102 rfl
theorem q120 : (Jvm.Cond.instanceMethod ({ cls := "Prime384", name := "montgomery", desc := "([I[I[I)V" } : Jvm.MethodName)) ∈ lw_all := lw_g (lw_at lw_m1 103 rfl) rfl
theorem q121 : (Jvm.Cond.code ({ cls := "Prime384", name := "montgomery", desc := "([I[I[I)V" } : Jvm.MethodName) prog_1_method_13_code (6 : Nat) (Option.none : Option Jvm.ClassFile.FieldType)) ∈ lw_all := lw_g (lw_at lw_m1 104 rfl) rfl
theorem q122 : (Jvm.Cond.methodLink "Prime384" (65 : Nat) ({ cls := "Prime384", name := "addProduct", desc := "(J[I)V" } : Jvm.MethodName)) ∈ lw_all := lw_g (lw_at lw_m1 105 rfl) rfl
theorem q123 : (Jvm.Cond.privateMethod ({ cls := "Prime384", name := "addProduct", desc := "(J[I)V" } : Jvm.MethodName)) ∈ lw_tbl := lw_at lw_m1 106 rfl
theorem q124 : (Jvm.Cond.instanceMethod ({ cls := "Prime384", name := "addProduct", desc := "(J[I)V" } : Jvm.MethodName)) ∈ lw_all := lw_g (lw_at lw_m1 107 rfl) rfl
theorem q125 : (Jvm.Cond.code ({ cls := "Prime384", name := "addProduct", desc := "(J[I)V" } : Jvm.MethodName) prog_1_method_12_code (7 : Nat) (Option.none : Option Jvm.ClassFile.FieldType)) ∈ lw_all := lw_g (lw_at lw_m1 108 rfl) rfl
theorem q127 : (Jvm.Cond.instanceMethod ({ cls := "Prime384", name := "square", desc := "(II)V" } : Jvm.MethodName)) ∈ lw_all := lw_g (lw_at lw_m1 110 rfl) rfl
theorem q128 : (Jvm.Cond.selects "Prime384" ({ cls := "Prime384", name := "square", desc := "(II)V" } : Jvm.MethodName) ({ cls := "Prime384", name := "square", desc := "(II)V" } : Jvm.MethodName)) ∈ lw_all := lw_g (lw_at lw_m1 111 rfl) rfl
theorem q129 : (Jvm.Cond.code ({ cls := "Prime384", name := "square", desc := "(II)V" } : Jvm.MethodName) prog_1_method_19_code (3 : Nat) (Option.none : Option Jvm.ClassFile.FieldType)) ∈ lw_all := lw_g (lw_at lw_m1 112 rfl) rfl
theorem q130 : (Jvm.Cond.methodLink "Prime384" (82 : Nat) ({ cls := "Prime384", name := "multiply", desc := "(III)V" } : Jvm.MethodName)) ∈ lw_all := lw_g (lw_at lw_m1 113 rfl) rfl
theorem q132 : (Jvm.Cond.instanceMethod ({ cls := "Prime384", name := "squares", desc := "(III)V" } : Jvm.MethodName)) ∈ lw_all := lw_g (lw_at lw_m1 115 rfl) rfl
theorem q133 : (Jvm.Cond.selects "Prime384" ({ cls := "Prime384", name := "squares", desc := "(III)V" } : Jvm.MethodName) ({ cls := "Prime384", name := "squares", desc := "(III)V" } : Jvm.MethodName)) ∈ lw_all := lw_g (lw_at lw_m1 116 rfl) rfl
theorem q134 : (Jvm.Cond.code ({ cls := "Prime384", name := "squares", desc := "(III)V" } : Jvm.MethodName) prog_1_method_20_code (6 : Nat) (Option.none : Option Jvm.ClassFile.FieldType)) ∈ lw_all := lw_g (lw_at lw_m1 117 rfl) rfl
theorem q136 : (Jvm.Cond.instanceMethod ({ cls := "Prime384", name := "twice", desc := "(II)V" } : Jvm.MethodName)) ∈ lw_all := lw_g (lw_at lw_m1 119 rfl) rfl
theorem q137 : (Jvm.Cond.selects "Prime384" ({ cls := "Prime384", name := "twice", desc := "(II)V" } : Jvm.MethodName) ({ cls := "Prime384", name := "twice", desc := "(II)V" } : Jvm.MethodName)) ∈ lw_all := lw_g (lw_at lw_m1 120 rfl) rfl
theorem q138 : (Jvm.Cond.code ({ cls := "Prime384", name := "twice", desc := "(II)V" } : Jvm.MethodName) prog_1_method_21_code (3 : Nat) (Option.none : Option Jvm.ClassFile.FieldType)) ∈ lw_all := lw_g (lw_at lw_m1 121 rfl) rfl
theorem q139 : (Jvm.Cond.methodLink "Prime384" (86 : Nat) ({ cls := "Prime384", name := "add", desc := "(III)V" } : Jvm.MethodName)) ∈ lw_all := lw_g (lw_at lw_m1 122 rfl) rfl
theorem q141 : (Jvm.Cond.instanceMethod ({ cls := "Prime384", name := "halve", desc := "(II)V" } : Jvm.MethodName)) ∈ lw_all := lw_g (lw_at lw_m1 124 rfl) rfl
theorem q142 : (Jvm.Cond.selects "Prime384" ({ cls := "Prime384", name := "halve", desc := "(II)V" } : Jvm.MethodName) ({ cls := "Prime384", name := "halve", desc := "(II)V" } : Jvm.MethodName)) ∈ lw_all := lw_g (lw_at lw_m1 125 rfl) rfl
theorem q143 : (Jvm.Cond.code ({ cls := "Prime384", name := "halve", desc := "(II)V" } : Jvm.MethodName) prog_1_method_22_code (3 : Nat) (Option.none : Option Jvm.ClassFile.FieldType)) ∈ lw_all := lw_g (lw_at lw_m1 126 rfl) rfl
theorem q144 : (Jvm.Cond.methodLink "Prime384" (89 : Nat) ({ cls := "Prime384", name := "half", desc := "([I)V" } : Jvm.MethodName)) ∈ lw_all := lw_g (lw_at lw_m1 127 rfl) rfl
theorem q145 : (Jvm.Cond.privateMethod ({ cls := "Prime384", name := "half", desc := "([I)V" } : Jvm.MethodName)) ∈ lw_tbl := lw_at lw_m1 128 rfl
theorem q146 : (Jvm.Cond.instanceMethod ({ cls := "Prime384", name := "half", desc := "([I)V" } : Jvm.MethodName)) ∈ lw_all := lw_g (lw_at lw_m1 129 rfl) rfl
theorem q147 : (Jvm.Cond.code ({ cls := "Prime384", name := "half", desc := "([I)V" } : Jvm.MethodName) prog_1_method_11_code (4 : Nat) (Option.none : Option Jvm.ClassFile.FieldType)) ∈ lw_all := lw_g (lw_at lw_m1 130 rfl) rfl
theorem q149 : (Jvm.Cond.instanceMethod ({ cls := "Prime384", name := "negate", desc := "(II)V" } : Jvm.MethodName)) ∈ lw_all := lw_g (lw_at lw_m1 132 rfl) rfl
theorem q150 : (Jvm.Cond.selects "Prime384" ({ cls := "Prime384", name := "negate", desc := "(II)V" } : Jvm.MethodName) ({ cls := "Prime384", name := "negate", desc := "(II)V" } : Jvm.MethodName)) ∈ lw_all := lw_g (lw_at lw_m1 133 rfl) rfl
theorem q151 : (Jvm.Cond.code ({ cls := "Prime384", name := "negate", desc := "(II)V" } : Jvm.MethodName) prog_1_method_23_code (4 : Nat) (Option.none : Option Jvm.ClassFile.FieldType)) ∈ lw_all := lw_g (lw_at lw_m1 134 rfl) rfl
theorem q153 : (Jvm.Cond.instanceMethod ({ cls := "Prime384", name := "invert", desc := "(II)Z" } : Jvm.MethodName)) ∈ lw_all := lw_g (lw_at lw_m1 136 rfl) rfl
theorem q154 : (Jvm.Cond.selects "Prime384" ({ cls := "Prime384", name := "invert", desc := "(II)Z" } : Jvm.MethodName) ({ cls := "Prime384", name := "invert", desc := "(II)Z" } : Jvm.MethodName)) ∈ lw_all := lw_g (lw_at lw_m1 137 rfl) rfl
theorem q155 : (Jvm.Cond.code ({ cls := "Prime384", name := "invert", desc := "(II)Z" } : Jvm.MethodName) prog_1_method_27_code (4 : Nat) (Option.some Jvm.ClassFile.FieldType.boolean)) ∈ lw_all := lw_g (lw_at lw_m1 138 rfl) rfl
theorem q156 : (Jvm.Cond.methodLink "Prime384" (96 : Nat) ({ cls := "Prime384", name := "isZero", desc := "([I)Z" } : Jvm.MethodName)) ∈ lw_all := lw_g (lw_at lw_m1 139 rfl) rfl
theorem q157 : (Jvm.Cond.static ({ cls := "Prime384", name := "isZero", desc := "([I)Z" } : Jvm.MethodName)) ∈ lw_all := lw_g (lw_at lw_m1 140 rfl) rfl
theorem q158 : (Jvm.Cond.code ({ cls := "Prime384", name := "isZero", desc := "([I)Z" } : Jvm.MethodName) prog_1_method_6_code (2 : Nat) (Option.some Jvm.ClassFile.FieldType.boolean)) ∈ lw_all := lw_g (lw_at lw_m1 141 rfl) rfl
theorem q159 : (Jvm.Cond.methodLink "Prime384" (100 : Nat) ({ cls := "Prime384", name := "isOne", desc := "([I)Z" } : Jvm.MethodName)) ∈ lw_all := lw_g (lw_at lw_m1 142 rfl) rfl
theorem q160 : (Jvm.Cond.static ({ cls := "Prime384", name := "isOne", desc := "([I)Z" } : Jvm.MethodName)) ∈ lw_all := lw_g (lw_at lw_m1 143 rfl) rfl
theorem q161 : (Jvm.Cond.code ({ cls := "Prime384", name := "isOne", desc := "([I)Z" } : Jvm.MethodName) prog_1_method_24_code (2 : Nat) (Option.some Jvm.ClassFile.FieldType.boolean)) ∈ lw_all := lw_g (lw_at lw_m1 144 rfl) rfl
theorem q162 : (Jvm.Cond.methodLink "Prime384" (103 : Nat) ({ cls := "Prime384", name := "odd", desc := "([I[I)V" } : Jvm.MethodName)) ∈ lw_all := lw_g (lw_at lw_m1 145 rfl) rfl
theorem q163 : (Jvm.Cond.privateMethod ({ cls := "Prime384", name := "odd", desc := "([I[I)V" } : Jvm.MethodName)) ∈ lw_tbl := lw_at lw_m1 146 rfl
theorem q164 : (Jvm.Cond.instanceMethod ({ cls := "Prime384", name := "odd", desc := "([I[I)V" } : Jvm.MethodName)) ∈ lw_all := lw_g (lw_at lw_m1 147 rfl) rfl
theorem q165 : (Jvm.Cond.code ({ cls := "Prime384", name := "odd", desc := "([I[I)V" } : Jvm.MethodName) prog_1_method_26_code (3 : Nat) (Option.none : Option Jvm.ClassFile.FieldType)) ∈ lw_all := lw_g (lw_at lw_m1 148 rfl) rfl
theorem q166 : (Jvm.Cond.methodLink "Prime384" (93 : Nat) ({ cls := "Prime384", name := "shift", desc := "([I)V" } : Jvm.MethodName)) ∈ lw_all := lw_g (lw_at lw_m1 149 rfl) rfl
theorem q167 : (Jvm.Cond.static ({ cls := "Prime384", name := "shift", desc := "([I)V" } : Jvm.MethodName)) ∈ lw_all := lw_g (lw_at lw_m1 150 rfl) rfl
theorem q168 : (Jvm.Cond.code ({ cls := "Prime384", name := "shift", desc := "([I)V" } : Jvm.MethodName) prog_1_method_25_code (2 : Nat) (Option.none : Option Jvm.ClassFile.FieldType)) ∈ lw_all := lw_g (lw_at lw_m1 151 rfl) rfl
theorem q170 : (Jvm.Cond.instanceMethod ({ cls := "Prime384", name := "zero", desc := "(I)Z" } : Jvm.MethodName)) ∈ lw_all := lw_g (lw_at lw_m1 153 rfl) rfl
theorem q171 : (Jvm.Cond.selects "Prime384" ({ cls := "Prime384", name := "zero", desc := "(I)Z" } : Jvm.MethodName) ({ cls := "Prime384", name := "zero", desc := "(I)Z" } : Jvm.MethodName)) ∈ lw_all := lw_g (lw_at lw_m1 154 rfl) rfl
theorem q172 : (Jvm.Cond.code ({ cls := "Prime384", name := "zero", desc := "(I)Z" } : Jvm.MethodName) prog_1_method_28_code (2 : Nat) (Option.some Jvm.ClassFile.FieldType.boolean)) ∈ lw_all := lw_g (lw_at lw_m1 155 rfl) rfl
theorem q174 : (Jvm.Cond.instanceMethod ({ cls := "Prime384", name := "carry", desc := "(II)V" } : Jvm.MethodName)) ∈ lw_all := lw_g (lw_at lw_m1 157 rfl) rfl
theorem q175 : (Jvm.Cond.selects "Prime384" ({ cls := "Prime384", name := "carry", desc := "(II)V" } : Jvm.MethodName) ({ cls := "Prime384", name := "carry", desc := "(II)V" } : Jvm.MethodName)) ∈ lw_all := lw_g (lw_at lw_m1 158 rfl) rfl
theorem q176 : (Jvm.Cond.code ({ cls := "Prime384", name := "carry", desc := "(II)V" } : Jvm.MethodName) prog_1_method_29_code (4 : Nat) (Option.none : Option Jvm.ClassFile.FieldType)) ∈ lw_all := lw_g (lw_at lw_m1 159 rfl) rfl
theorem in_X0 : ∀ w ∈ wsX00, w ∈ lw_all := lw_in wsX00 [54, 56, 58, 60, 62, 64, 66, 68, 70, 72, 74, 76] (by decide +kernel) (by decide +kernel)
end
section
set_option maxRecDepth 100000
theorem dX0_init_0 : decode cX0_init 0 = .ok (.aload_n 0, 1) := by decide +kernel
theorem dX0_init_1 : decode cX0_init 1 = .ok (.invokespecial 1, 3) := by decide +kernel
theorem dX0_init_4 : decode cX0_init 4 = .ok (.aload_n 0, 1) := by decide +kernel
theorem dX0_init_5 : decode cX0_init 5 = .ok (.bipush 48, 2) := by decide +kernel
theorem dX0_init_7 : decode cX0_init 7 = .ok (.newarray .int, 2) := by decide +kernel
theorem dX0_init_9 : decode cX0_init 9 = .ok (.putfield 9, 3) := by decide +kernel
theorem dX0_init_12 : decode cX0_init 12 = .ok (.aload_n 0, 1) := by decide +kernel
theorem dX0_init_13 : decode cX0_init 13 = .ok (.bipush 12, 2) := by decide +kernel
theorem dX0_init_15 : decode cX0_init 15 = .ok (.newarray .int, 2) := by decide +kernel
theorem dX0_init_17 : decode cX0_init 17 = .ok (.putfield 13, 3) := by decide +kernel
theorem dX0_init_20 : decode cX0_init 20 = .ok (.aload_n 0, 1) := by decide +kernel
theorem dX0_init_21 : decode cX0_init 21 = .ok (.bipush 12, 2) := by decide +kernel
theorem dX0_init_23 : decode cX0_init 23 = .ok (.newarray .int, 2) := by decide +kernel
theorem dX0_init_25 : decode cX0_init 25 = .ok (.putfield 16, 3) := by decide +kernel
theorem dX0_init_28 : decode cX0_init 28 = .ok (.aload_n 0, 1) := by decide +kernel
theorem dX0_init_29 : decode cX0_init 29 = .ok (.bipush 12, 2) := by decide +kernel
theorem dX0_init_31 : decode cX0_init 31 = .ok (.newarray .int, 2) := by decide +kernel
theorem dX0_init_33 : decode cX0_init 33 = .ok (.putfield 19, 3) := by decide +kernel
theorem dX0_init_36 : decode cX0_init 36 = .ok (.aload_n 0, 1) := by decide +kernel
theorem dX0_init_37 : decode cX0_init 37 = .ok (.bipush 14, 2) := by decide +kernel
theorem dX0_init_39 : decode cX0_init 39 = .ok (.newarray .long, 2) := by decide +kernel
theorem dX0_init_41 : decode cX0_init 41 = .ok (.putfield 22, 3) := by decide +kernel
theorem dX0_init_44 : decode cX0_init 44 = .ok (.aload_n 0, 1) := by decide +kernel
theorem dX0_init_45 : decode cX0_init 45 = .ok (.bipush 12, 2) := by decide +kernel
theorem dX0_init_47 : decode cX0_init 47 = .ok (.newarray .int, 2) := by decide +kernel
theorem dX0_init_49 : decode cX0_init 49 = .ok (.putfield 26, 3) := by decide +kernel
theorem dX0_init_52 : decode cX0_init 52 = .ok (.aload_n 0, 1) := by decide +kernel
theorem dX0_init_53 : decode cX0_init 53 = .ok (.bipush 12, 2) := by decide +kernel
theorem dX0_init_55 : decode cX0_init 55 = .ok (.newarray .int, 2) := by decide +kernel
theorem dX0_init_57 : decode cX0_init 57 = .ok (.putfield 29, 3) := by decide +kernel
theorem dX0_init_60 : decode cX0_init 60 = .ok (.aload_n 0, 1) := by decide +kernel
theorem dX0_init_61 : decode cX0_init 61 = .ok (.bipush 12, 2) := by decide +kernel
theorem dX0_init_63 : decode cX0_init 63 = .ok (.newarray .int, 2) := by decide +kernel
theorem dX0_init_65 : decode cX0_init 65 = .ok (.putfield 32, 3) := by decide +kernel
theorem dX0_init_68 : decode cX0_init 68 = .ok (.aload_n 0, 1) := by decide +kernel
theorem dX0_init_69 : decode cX0_init 69 = .ok (.bipush 12, 2) := by decide +kernel
theorem dX0_init_71 : decode cX0_init 71 = .ok (.newarray .int, 2) := by decide +kernel
theorem dX0_init_73 : decode cX0_init 73 = .ok (.putfield 35, 3) := by decide +kernel
theorem dX0_init_76 : decode cX0_init 76 = .ok (.aload_n 0, 1) := by decide +kernel
theorem dX0_init_77 : decode cX0_init 77 = .ok (.bipush 12, 2) := by decide +kernel
theorem dX0_init_79 : decode cX0_init 79 = .ok (.newarray .int, 2) := by decide +kernel
theorem dX0_init_81 : decode cX0_init 81 = .ok (.putfield 38, 3) := by decide +kernel
theorem dX0_init_84 : decode cX0_init 84 = .ok (.aload_n 0, 1) := by decide +kernel
theorem dX0_init_85 : decode cX0_init 85 = .ok (.bipush 12, 2) := by decide +kernel
theorem dX0_init_87 : decode cX0_init 87 = .ok (.newarray .int, 2) := by decide +kernel
theorem dX0_init_89 : decode cX0_init 89 = .ok (.putfield 41, 3) := by decide +kernel
theorem dX0_init_92 : decode cX0_init 92 = .ok (.aload_n 0, 1) := by decide +kernel
theorem dX0_init_93 : decode cX0_init 93 = .ok (.bipush 12, 2) := by decide +kernel
theorem dX0_init_95 : decode cX0_init 95 = .ok (.newarray .int, 2) := by decide +kernel
theorem dX0_init_97 : decode cX0_init 97 = .ok (.putfield 44, 3) := by decide +kernel
theorem dX0_init_100 : decode cX0_init 100 = .ok (.iconst 0, 1) := by decide +kernel
theorem dX0_init_101 : decode cX0_init 101 = .ok (.istore_n 1, 1) := by decide +kernel
theorem dX0_init_102 : decode cX0_init 102 = .ok (.iload_n 1, 1) := by decide +kernel
theorem dX0_init_103 : decode cX0_init 103 = .ok (.bipush 12, 2) := by decide +kernel
theorem dX0_init_105 : decode cX0_init 105 = .ok (.if_icmp .ge 16, 3) := by decide +kernel
theorem dX0_init_108 : decode cX0_init 108 = .ok (.aload_n 0, 1) := by decide +kernel
theorem dX0_init_109 : decode cX0_init 109 = .ok (.getfield 16, 3) := by decide +kernel
theorem dX0_init_112 : decode cX0_init 112 = .ok (.iload_n 1, 1) := by decide +kernel
theorem dX0_init_113 : decode cX0_init 113 = .ok (.iconst (-1), 1) := by decide +kernel
theorem dX0_init_114 : decode cX0_init 114 = .ok (.iastore, 1) := by decide +kernel
theorem dX0_init_115 : decode cX0_init 115 = .ok (.iinc 1 1, 3) := by decide +kernel
theorem dX0_init_118 : decode cX0_init 118 = .ok (.goto (-16), 3) := by decide +kernel
theorem dX0_init_121 : decode cX0_init 121 = .ok (.aload_n 0, 1) := by decide +kernel
theorem dX0_init_122 : decode cX0_init 122 = .ok (.getfield 16, 3) := by decide +kernel
theorem dX0_init_125 : decode cX0_init 125 = .ok (.iconst 1, 1) := by decide +kernel
theorem dX0_init_126 : decode cX0_init 126 = .ok (.iconst 0, 1) := by decide +kernel
theorem dX0_init_127 : decode cX0_init 127 = .ok (.iastore, 1) := by decide +kernel
theorem dX0_init_128 : decode cX0_init 128 = .ok (.aload_n 0, 1) := by decide +kernel
theorem dX0_init_129 : decode cX0_init 129 = .ok (.getfield 16, 3) := by decide +kernel
theorem dX0_init_132 : decode cX0_init 132 = .ok (.iconst 2, 1) := by decide +kernel
theorem dX0_init_133 : decode cX0_init 133 = .ok (.iconst 0, 1) := by decide +kernel
theorem dX0_init_134 : decode cX0_init 134 = .ok (.iastore, 1) := by decide +kernel
theorem dX0_init_135 : decode cX0_init 135 = .ok (.aload_n 0, 1) := by decide +kernel
theorem dX0_init_136 : decode cX0_init 136 = .ok (.getfield 16, 3) := by decide +kernel
theorem dX0_init_139 : decode cX0_init 139 = .ok (.iconst 4, 1) := by decide +kernel
theorem dX0_init_140 : decode cX0_init 140 = .ok (.bipush (-2), 2) := by decide +kernel
theorem dX0_init_142 : decode cX0_init 142 = .ok (.iastore, 1) := by decide +kernel
theorem dX0_init_143 : decode cX0_init 143 = .ok (.aload_n 0, 1) := by decide +kernel
theorem dX0_init_144 : decode cX0_init 144 = .ok (.getfield 19, 3) := by decide +kernel
theorem dX0_init_147 : decode cX0_init 147 = .ok (.iconst 0, 1) := by decide +kernel
theorem dX0_init_148 : decode cX0_init 148 = .ok (.iconst 1, 1) := by decide +kernel
theorem dX0_init_149 : decode cX0_init 149 = .ok (.iastore, 1) := by decide +kernel
theorem dX0_init_150 : decode cX0_init 150 = .ok (.iconst 0, 1) := by decide +kernel
theorem dX0_init_151 : decode cX0_init 151 = .ok (.istore_n 1, 1) := by decide +kernel
theorem dX0_init_152 : decode cX0_init 152 = .ok (.iload_n 1, 1) := by decide +kernel
theorem dX0_init_153 : decode cX0_init 153 = .ok (.sipush 768, 3) := by decide +kernel
theorem dX0_init_156 : decode cX0_init 156 = .ok (.if_icmp .ge 25, 3) := by decide +kernel
theorem dX0_init_159 : decode cX0_init 159 = .ok (.aload_n 0, 1) := by decide +kernel
theorem dX0_init_160 : decode cX0_init 160 = .ok (.aload_n 0, 1) := by decide +kernel
theorem dX0_init_161 : decode cX0_init 161 = .ok (.getfield 19, 3) := by decide +kernel
theorem dX0_init_164 : decode cX0_init 164 = .ok (.aload_n 0, 1) := by decide +kernel
theorem dX0_init_165 : decode cX0_init 165 = .ok (.getfield 19, 3) := by decide +kernel
theorem dX0_init_168 : decode cX0_init 168 = .ok (.aload_n 0, 1) := by decide +kernel
theorem dX0_init_169 : decode cX0_init 169 = .ok (.getfield 19, 3) := by decide +kernel
theorem dX0_init_172 : decode cX0_init 172 = .ok (.invokevirtual 47, 3) := by decide +kernel
theorem dX0_init_175 : decode cX0_init 175 = .ok (.iinc 1 1, 3) := by decide +kernel
theorem dX0_init_178 : decode cX0_init 178 = .ok (.goto (-26), 3) := by decide +kernel
theorem dX0_init_181 : decode cX0_init 181 = .ok (.return_, 1) := by decide +kernel
theorem dX0_sumOf_0 : decode cX0_sumOf 0 = .ok (.aload_n 1, 1) := by decide +kernel
theorem dX0_sumOf_1 : decode cX0_sumOf 1 = .ok (.aload_n 2, 1) := by decide +kernel
theorem dX0_sumOf_2 : decode cX0_sumOf 2 = .ok (.aload_n 3, 1) := by decide +kernel
theorem dX0_sumOf_3 : decode cX0_sumOf 3 = .ok (.invokestatic 54, 3) := by decide +kernel
theorem dX0_sumOf_6 : decode cX0_sumOf 6 = .ok (.istore 4, 2) := by decide +kernel
theorem dX0_sumOf_8 : decode cX0_sumOf 8 = .ok (.iload 4, 2) := by decide +kernel
theorem dX0_sumOf_10 : decode cX0_sumOf 10 = .ok (.ifCond .ne 14, 3) := by decide +kernel
theorem dX0_sumOf_13 : decode cX0_sumOf 13 = .ok (.aload_n 3, 1) := by decide +kernel
theorem dX0_sumOf_14 : decode cX0_sumOf 14 = .ok (.aload_n 0, 1) := by decide +kernel
theorem dX0_sumOf_15 : decode cX0_sumOf 15 = .ok (.getfield 16, 3) := by decide +kernel
theorem dX0_sumOf_18 : decode cX0_sumOf 18 = .ok (.invokestatic 58, 3) := by decide +kernel
theorem dX0_sumOf_21 : decode cX0_sumOf 21 = .ok (.ifCond .ne 13, 3) := by decide +kernel
theorem dX0_sumOf_24 : decode cX0_sumOf 24 = .ok (.aload_n 3, 1) := by decide +kernel
theorem dX0_sumOf_25 : decode cX0_sumOf 25 = .ok (.aload_n 0, 1) := by decide +kernel
theorem dX0_sumOf_26 : decode cX0_sumOf 26 = .ok (.getfield 16, 3) := by decide +kernel
theorem dX0_sumOf_29 : decode cX0_sumOf 29 = .ok (.aload_n 3, 1) := by decide +kernel
theorem dX0_sumOf_30 : decode cX0_sumOf 30 = .ok (.invokestatic 62, 3) := by decide +kernel
theorem dX0_sumOf_33 : decode cX0_sumOf 33 = .ok (.pop, 1) := by decide +kernel
theorem dX0_sumOf_34 : decode cX0_sumOf 34 = .ok (.return_, 1) := by decide +kernel
theorem dX0_plus_0 : decode cX0_plus 0 = .ok (.lconst 0, 1) := by decide +kernel
theorem dX0_plus_1 : decode cX0_plus 1 = .ok (.lstore_n 3, 1) := by decide +kernel
theorem dX0_plus_2 : decode cX0_plus 2 = .ok (.iconst 0, 1) := by decide +kernel
theorem dX0_plus_3 : decode cX0_plus 3 = .ok (.istore 5, 2) := by decide +kernel
theorem dX0_plus_5 : decode cX0_plus 5 = .ok (.iload 5, 2) := by decide +kernel
theorem dX0_plus_7 : decode cX0_plus 7 = .ok (.bipush 12, 2) := by decide +kernel
theorem dX0_plus_9 : decode cX0_plus 9 = .ok (.if_icmp .ge 42, 3) := by decide +kernel
theorem dX0_plus_12 : decode cX0_plus 12 = .ok (.lload_n 3, 1) := by decide +kernel
theorem dX0_plus_13 : decode cX0_plus 13 = .ok (.aload_n 0, 1) := by decide +kernel
theorem dX0_plus_14 : decode cX0_plus 14 = .ok (.iload 5, 2) := by decide +kernel
theorem dX0_plus_16 : decode cX0_plus 16 = .ok (.iaload, 1) := by decide +kernel
theorem dX0_plus_17 : decode cX0_plus 17 = .ok (.i2l, 1) := by decide +kernel
theorem dX0_plus_18 : decode cX0_plus 18 = .ok (.ldc2_w 52, 3) := by decide +kernel
theorem dX0_plus_21 : decode cX0_plus 21 = .ok (.land, 1) := by decide +kernel
theorem dX0_plus_22 : decode cX0_plus 22 = .ok (.aload_n 1, 1) := by decide +kernel
theorem dX0_plus_23 : decode cX0_plus 23 = .ok (.iload 5, 2) := by decide +kernel
theorem dX0_plus_25 : decode cX0_plus 25 = .ok (.iaload, 1) := by decide +kernel
theorem dX0_plus_26 : decode cX0_plus 26 = .ok (.i2l, 1) := by decide +kernel
theorem dX0_plus_27 : decode cX0_plus 27 = .ok (.ldc2_w 52, 3) := by decide +kernel
theorem dX0_plus_30 : decode cX0_plus 30 = .ok (.land, 1) := by decide +kernel
theorem dX0_plus_31 : decode cX0_plus 31 = .ok (.ladd, 1) := by decide +kernel
theorem dX0_plus_32 : decode cX0_plus 32 = .ok (.ladd, 1) := by decide +kernel
theorem dX0_plus_33 : decode cX0_plus 33 = .ok (.lstore_n 3, 1) := by decide +kernel
theorem dX0_plus_34 : decode cX0_plus 34 = .ok (.aload_n 2, 1) := by decide +kernel
theorem dX0_plus_35 : decode cX0_plus 35 = .ok (.iload 5, 2) := by decide +kernel
theorem dX0_plus_37 : decode cX0_plus 37 = .ok (.lload_n 3, 1) := by decide +kernel
theorem dX0_plus_38 : decode cX0_plus 38 = .ok (.l2i, 1) := by decide +kernel
theorem dX0_plus_39 : decode cX0_plus 39 = .ok (.iastore, 1) := by decide +kernel
theorem dX0_plus_40 : decode cX0_plus 40 = .ok (.lload_n 3, 1) := by decide +kernel
theorem dX0_plus_41 : decode cX0_plus 41 = .ok (.bipush 32, 2) := by decide +kernel
theorem dX0_plus_43 : decode cX0_plus 43 = .ok (.lshr, 1) := by decide +kernel
theorem dX0_plus_44 : decode cX0_plus 44 = .ok (.lstore_n 3, 1) := by decide +kernel
theorem dX0_plus_45 : decode cX0_plus 45 = .ok (.iinc 5 1, 3) := by decide +kernel
theorem dX0_plus_48 : decode cX0_plus 48 = .ok (.goto (-43), 3) := by decide +kernel
theorem dX0_plus_51 : decode cX0_plus 51 = .ok (.lload_n 3, 1) := by decide +kernel
theorem dX0_plus_52 : decode cX0_plus 52 = .ok (.l2i, 1) := by decide +kernel
theorem dX0_plus_53 : decode cX0_plus 53 = .ok (.ireturn, 1) := by decide +kernel
theorem dX0_isLess_0 : decode cX0_isLess 0 = .ok (.bipush 11, 2) := by decide +kernel
theorem dX0_isLess_2 : decode cX0_isLess 2 = .ok (.istore_n 2, 1) := by decide +kernel
theorem dX0_isLess_3 : decode cX0_isLess 3 = .ok (.iload_n 2, 1) := by decide +kernel
theorem dX0_isLess_4 : decode cX0_isLess 4 = .ok (.ifCond .lt 44, 3) := by decide +kernel
theorem dX0_isLess_7 : decode cX0_isLess 7 = .ok (.aload_n 0, 1) := by decide +kernel
theorem dX0_isLess_8 : decode cX0_isLess 8 = .ok (.iload_n 2, 1) := by decide +kernel
theorem dX0_isLess_9 : decode cX0_isLess 9 = .ok (.iaload, 1) := by decide +kernel
theorem dX0_isLess_10 : decode cX0_isLess 10 = .ok (.aload_n 1, 1) := by decide +kernel
theorem dX0_isLess_11 : decode cX0_isLess 11 = .ok (.iload_n 2, 1) := by decide +kernel
theorem dX0_isLess_12 : decode cX0_isLess 12 = .ok (.iaload, 1) := by decide +kernel
theorem dX0_isLess_13 : decode cX0_isLess 13 = .ok (.if_icmp .eq 29, 3) := by decide +kernel
theorem dX0_isLess_16 : decode cX0_isLess 16 = .ok (.aload_n 0, 1) := by decide +kernel
theorem dX0_isLess_17 : decode cX0_isLess 17 = .ok (.iload_n 2, 1) := by decide +kernel
theorem dX0_isLess_18 : decode cX0_isLess 18 = .ok (.iaload, 1) := by decide +kernel
theorem dX0_isLess_19 : decode cX0_isLess 19 = .ok (.i2l, 1) := by decide +kernel
theorem dX0_isLess_20 : decode cX0_isLess 20 = .ok (.ldc2_w 52, 3) := by decide +kernel
theorem dX0_isLess_23 : decode cX0_isLess 23 = .ok (.land, 1) := by decide +kernel
theorem dX0_isLess_24 : decode cX0_isLess 24 = .ok (.aload_n 1, 1) := by decide +kernel
theorem dX0_isLess_25 : decode cX0_isLess 25 = .ok (.iload_n 2, 1) := by decide +kernel
theorem dX0_isLess_26 : decode cX0_isLess 26 = .ok (.iaload, 1) := by decide +kernel
theorem dX0_isLess_27 : decode cX0_isLess 27 = .ok (.i2l, 1) := by decide +kernel
theorem dX0_isLess_28 : decode cX0_isLess 28 = .ok (.ldc2_w 52, 3) := by decide +kernel
theorem dX0_isLess_31 : decode cX0_isLess 31 = .ok (.land, 1) := by decide +kernel
theorem dX0_isLess_32 : decode cX0_isLess 32 = .ok (.lcmp, 1) := by decide +kernel
theorem dX0_isLess_33 : decode cX0_isLess 33 = .ok (.ifCond .ge 7, 3) := by decide +kernel
theorem dX0_isLess_36 : decode cX0_isLess 36 = .ok (.iconst 1, 1) := by decide +kernel
theorem dX0_isLess_37 : decode cX0_isLess 37 = .ok (.goto 4, 3) := by decide +kernel
theorem dX0_isLess_40 : decode cX0_isLess 40 = .ok (.iconst 0, 1) := by decide +kernel
theorem dX0_isLess_41 : decode cX0_isLess 41 = .ok (.ireturn, 1) := by decide +kernel
theorem dX0_isLess_42 : decode cX0_isLess 42 = .ok (.iinc 2 (-1), 3) := by decide +kernel
theorem dX0_isLess_45 : decode cX0_isLess 45 = .ok (.goto (-42), 3) := by decide +kernel
theorem dX0_isLess_48 : decode cX0_isLess 48 = .ok (.iconst 0, 1) := by decide +kernel
theorem dX0_isLess_49 : decode cX0_isLess 49 = .ok (.ireturn, 1) := by decide +kernel
theorem dX0_minus_0 : decode cX0_minus 0 = .ok (.lconst 0, 1) := by decide +kernel
theorem dX0_minus_1 : decode cX0_minus 1 = .ok (.lstore_n 3, 1) := by decide +kernel
theorem dX0_minus_2 : decode cX0_minus 2 = .ok (.iconst 0, 1) := by decide +kernel
theorem dX0_minus_3 : decode cX0_minus 3 = .ok (.istore 5, 2) := by decide +kernel
theorem dX0_minus_5 : decode cX0_minus 5 = .ok (.iload 5, 2) := by decide +kernel
theorem dX0_minus_7 : decode cX0_minus 7 = .ok (.bipush 12, 2) := by decide +kernel
theorem dX0_minus_9 : decode cX0_minus 9 = .ok (.if_icmp .ge 42, 3) := by decide +kernel
theorem dX0_minus_12 : decode cX0_minus 12 = .ok (.lload_n 3, 1) := by decide +kernel
theorem dX0_minus_13 : decode cX0_minus 13 = .ok (.aload_n 0, 1) := by decide +kernel
theorem dX0_minus_14 : decode cX0_minus 14 = .ok (.iload 5, 2) := by decide +kernel
theorem dX0_minus_16 : decode cX0_minus 16 = .ok (.iaload, 1) := by decide +kernel
theorem dX0_minus_17 : decode cX0_minus 17 = .ok (.i2l, 1) := by decide +kernel
theorem dX0_minus_18 : decode cX0_minus 18 = .ok (.ldc2_w 52, 3) := by decide +kernel
theorem dX0_minus_21 : decode cX0_minus 21 = .ok (.land, 1) := by decide +kernel
theorem dX0_minus_22 : decode cX0_minus 22 = .ok (.aload_n 1, 1) := by decide +kernel
theorem dX0_minus_23 : decode cX0_minus 23 = .ok (.iload 5, 2) := by decide +kernel
theorem dX0_minus_25 : decode cX0_minus 25 = .ok (.iaload, 1) := by decide +kernel
theorem dX0_minus_26 : decode cX0_minus 26 = .ok (.i2l, 1) := by decide +kernel
theorem dX0_minus_27 : decode cX0_minus 27 = .ok (.ldc2_w 52, 3) := by decide +kernel
theorem dX0_minus_30 : decode cX0_minus 30 = .ok (.land, 1) := by decide +kernel
theorem dX0_minus_31 : decode cX0_minus 31 = .ok (.lsub, 1) := by decide +kernel
theorem dX0_minus_32 : decode cX0_minus 32 = .ok (.ladd, 1) := by decide +kernel
theorem dX0_minus_33 : decode cX0_minus 33 = .ok (.lstore_n 3, 1) := by decide +kernel
theorem dX0_minus_34 : decode cX0_minus 34 = .ok (.aload_n 2, 1) := by decide +kernel
theorem dX0_minus_35 : decode cX0_minus 35 = .ok (.iload 5, 2) := by decide +kernel
theorem dX0_minus_37 : decode cX0_minus 37 = .ok (.lload_n 3, 1) := by decide +kernel
theorem dX0_minus_38 : decode cX0_minus 38 = .ok (.l2i, 1) := by decide +kernel
theorem dX0_minus_39 : decode cX0_minus 39 = .ok (.iastore, 1) := by decide +kernel
theorem dX0_minus_40 : decode cX0_minus 40 = .ok (.lload_n 3, 1) := by decide +kernel
theorem dX0_minus_41 : decode cX0_minus 41 = .ok (.bipush 32, 2) := by decide +kernel
theorem dX0_minus_43 : decode cX0_minus 43 = .ok (.lshr, 1) := by decide +kernel
theorem dX0_minus_44 : decode cX0_minus 44 = .ok (.lstore_n 3, 1) := by decide +kernel
theorem dX0_minus_45 : decode cX0_minus 45 = .ok (.iinc 5 1, 3) := by decide +kernel
theorem dX0_minus_48 : decode cX0_minus 48 = .ok (.goto (-43), 3) := by decide +kernel
theorem dX0_minus_51 : decode cX0_minus 51 = .ok (.lload_n 3, 1) := by decide +kernel
theorem dX0_minus_52 : decode cX0_minus 52 = .ok (.l2i, 1) := by decide +kernel
theorem dX0_minus_53 : decode cX0_minus 53 = .ok (.ireturn, 1) := by decide +kernel
theorem dX0_line_0 : decode cX0_line 0 = .ok (.iconst 4, 1) := by decide +kernel
theorem dX0_line_1 : decode cX0_line 1 = .ok (.iload_n 1, 1) := by decide +kernel
theorem dX0_line_2 : decode cX0_line 2 = .ok (.ldc 51, 2) := by decide +kernel
theorem dX0_line_4 : decode cX0_line 4 = .ok (.iand, 1) := by decide +kernel
theorem dX0_line_5 : decode cX0_line 5 = .ok (.iconst 3, 1) := by decide +kernel
theorem dX0_line_6 : decode cX0_line 6 = .ok (.irem, 1) := by decide +kernel
theorem dX0_line_7 : decode cX0_line 7 = .ok (.imul, 1) := by decide +kernel
theorem dX0_line_8 : decode cX0_line 8 = .ok (.istore 6, 2) := by decide +kernel
theorem dX0_line_10 : decode cX0_line 10 = .ok (.aload_n 0, 1) := by decide +kernel
theorem dX0_line_11 : decode cX0_line 11 = .ok (.getfield 13, 3) := by decide +kernel
theorem dX0_line_14 : decode cX0_line 14 = .ok (.iload 6, 2) := by decide +kernel
theorem dX0_line_16 : decode cX0_line 16 = .ok (.iload_n 2, 1) := by decide +kernel
theorem dX0_line_17 : decode cX0_line 17 = .ok (.iastore, 1) := by decide +kernel
theorem dX0_line_18 : decode cX0_line 18 = .ok (.aload_n 0, 1) := by decide +kernel
theorem dX0_line_19 : decode cX0_line 19 = .ok (.getfield 13, 3) := by decide +kernel
theorem dX0_line_22 : decode cX0_line 22 = .ok (.iload 6, 2) := by decide +kernel
theorem dX0_line_24 : decode cX0_line 24 = .ok (.iconst 1, 1) := by decide +kernel
theorem dX0_line_25 : decode cX0_line 25 = .ok (.iadd, 1) := by decide +kernel
theorem dX0_line_26 : decode cX0_line 26 = .ok (.iload_n 3, 1) := by decide +kernel
theorem dX0_line_27 : decode cX0_line 27 = .ok (.iastore, 1) := by decide +kernel
theorem dX0_line_28 : decode cX0_line 28 = .ok (.aload_n 0, 1) := by decide +kernel
theorem dX0_line_29 : decode cX0_line 29 = .ok (.getfield 13, 3) := by decide +kernel
theorem dX0_line_32 : decode cX0_line 32 = .ok (.iload 6, 2) := by decide +kernel
theorem dX0_line_34 : decode cX0_line 34 = .ok (.iconst 2, 1) := by decide +kernel
theorem dX0_line_35 : decode cX0_line 35 = .ok (.iadd, 1) := by decide +kernel
theorem dX0_line_36 : decode cX0_line 36 = .ok (.iload 4, 2) := by decide +kernel
theorem dX0_line_38 : decode cX0_line 38 = .ok (.iastore, 1) := by decide +kernel
theorem dX0_line_39 : decode cX0_line 39 = .ok (.aload_n 0, 1) := by decide +kernel
theorem dX0_line_40 : decode cX0_line 40 = .ok (.getfield 13, 3) := by decide +kernel
theorem dX0_line_43 : decode cX0_line 43 = .ok (.iload 6, 2) := by decide +kernel
theorem dX0_line_45 : decode cX0_line 45 = .ok (.iconst 3, 1) := by decide +kernel
theorem dX0_line_46 : decode cX0_line 46 = .ok (.iadd, 1) := by decide +kernel
theorem dX0_line_47 : decode cX0_line 47 = .ok (.iload 5, 2) := by decide +kernel
theorem dX0_line_49 : decode cX0_line 49 = .ok (.iastore, 1) := by decide +kernel
theorem dX0_line_50 : decode cX0_line 50 = .ok (.return_, 1) := by decide +kernel
theorem dX0_load_0 : decode cX0_load 0 = .ok (.aload_n 0, 1) := by decide +kernel
theorem dX0_load_1 : decode cX0_load 1 = .ok (.getfield 13, 3) := by decide +kernel
theorem dX0_load_4 : decode cX0_load 4 = .ok (.aload_n 0, 1) := by decide +kernel
theorem dX0_load_5 : decode cX0_load 5 = .ok (.getfield 16, 3) := by decide +kernel
theorem dX0_load_8 : decode cX0_load 8 = .ok (.invokestatic 58, 3) := by decide +kernel
theorem dX0_load_11 : decode cX0_load 11 = .ok (.ifCond .ne 7, 3) := by decide +kernel
theorem dX0_load_14 : decode cX0_load 14 = .ok (.iconst 1, 1) := by decide +kernel
theorem dX0_load_15 : decode cX0_load 15 = .ok (.goto 4, 3) := by decide +kernel
theorem dX0_load_18 : decode cX0_load 18 = .ok (.iconst 0, 1) := by decide +kernel
theorem dX0_load_19 : decode cX0_load 19 = .ok (.istore_n 2, 1) := by decide +kernel
theorem dX0_load_20 : decode cX0_load 20 = .ok (.iconst 0, 1) := by decide +kernel
theorem dX0_load_21 : decode cX0_load 21 = .ok (.istore_n 3, 1) := by decide +kernel
theorem dX0_load_22 : decode cX0_load 22 = .ok (.iload_n 3, 1) := by decide +kernel
theorem dX0_load_23 : decode cX0_load 23 = .ok (.bipush 12, 2) := by decide +kernel
theorem dX0_load_25 : decode cX0_load 25 = .ok (.if_icmp .ge 21, 3) := by decide +kernel
theorem dX0_load_28 : decode cX0_load 28 = .ok (.aload_n 0, 1) := by decide +kernel
theorem dX0_load_29 : decode cX0_load 29 = .ok (.getfield 32, 3) := by decide +kernel
theorem dX0_load_32 : decode cX0_load 32 = .ok (.iload_n 3, 1) := by decide +kernel
theorem dX0_load_33 : decode cX0_load 33 = .ok (.aload_n 0, 1) := by decide +kernel
theorem dX0_load_34 : decode cX0_load 34 = .ok (.getfield 13, 3) := by decide +kernel
theorem dX0_load_37 : decode cX0_load 37 = .ok (.iload_n 3, 1) := by decide +kernel
theorem dX0_load_38 : decode cX0_load 38 = .ok (.iaload, 1) := by decide +kernel
theorem dX0_load_39 : decode cX0_load 39 = .ok (.iastore, 1) := by decide +kernel
theorem dX0_load_40 : decode cX0_load 40 = .ok (.iinc 3 1, 3) := by decide +kernel
theorem dX0_load_43 : decode cX0_load 43 = .ok (.goto (-21), 3) := by decide +kernel
theorem dX0_load_46 : decode cX0_load 46 = .ok (.iload_n 2, 1) := by decide +kernel
theorem dX0_load_47 : decode cX0_load 47 = .ok (.ifCond .eq 19, 3) := by decide +kernel
theorem dX0_load_50 : decode cX0_load 50 = .ok (.aload_n 0, 1) := by decide +kernel
theorem dX0_load_51 : decode cX0_load 51 = .ok (.getfield 13, 3) := by decide +kernel
theorem dX0_load_54 : decode cX0_load 54 = .ok (.aload_n 0, 1) := by decide +kernel
theorem dX0_load_55 : decode cX0_load 55 = .ok (.getfield 16, 3) := by decide +kernel
theorem dX0_load_58 : decode cX0_load 58 = .ok (.aload_n 0, 1) := by decide +kernel
theorem dX0_load_59 : decode cX0_load 59 = .ok (.getfield 32, 3) := by decide +kernel
theorem dX0_load_62 : decode cX0_load 62 = .ok (.invokestatic 62, 3) := by decide +kernel
theorem dX0_load_65 : decode cX0_load 65 = .ok (.pop, 1) := by decide +kernel
theorem dX0_load_66 : decode cX0_load 66 = .ok (.aload_n 0, 1) := by decide +kernel
theorem dX0_load_67 : decode cX0_load 67 = .ok (.iload_n 1, 1) := by decide +kernel
theorem dX0_load_68 : decode cX0_load 68 = .ok (.aload_n 0, 1) := by decide +kernel
theorem dX0_load_69 : decode cX0_load 69 = .ok (.getfield 32, 3) := by decide +kernel
theorem dX0_load_72 : decode cX0_load 72 = .ok (.invokevirtual 69, 3) := by decide +kernel
theorem dX0_load_75 : decode cX0_load 75 = .ok (.iload_n 2, 1) := by decide +kernel
theorem dX0_load_76 : decode cX0_load 76 = .ok (.ireturn, 1) := by decide +kernel
theorem dX0_put_0 : decode cX0_put 0 = .ok (.iload_n 1, 1) := by decide +kernel
theorem dX0_put_1 : decode cX0_put 1 = .ok (.iconst 3, 1) := by decide +kernel
theorem dX0_put_2 : decode cX0_put 2 = .ok (.iand, 1) := by decide +kernel
theorem dX0_put_3 : decode cX0_put 3 = .ok (.bipush 12, 2) := by decide +kernel
theorem dX0_put_5 : decode cX0_put 5 = .ok (.imul, 1) := by decide +kernel
theorem dX0_put_6 : decode cX0_put 6 = .ok (.istore_n 3, 1) := by decide +kernel
theorem dX0_put_7 : decode cX0_put 7 = .ok (.iconst 0, 1) := by decide +kernel
theorem dX0_put_8 : decode cX0_put 8 = .ok (.istore 4, 2) := by decide +kernel
theorem dX0_put_10 : decode cX0_put 10 = .ok (.iload 4, 2) := by decide +kernel
theorem dX0_put_12 : decode cX0_put 12 = .ok (.bipush 12, 2) := by decide +kernel
theorem dX0_put_14 : decode cX0_put 14 = .ok (.if_icmp .ge 22, 3) := by decide +kernel
theorem dX0_put_17 : decode cX0_put 17 = .ok (.aload_n 0, 1) := by decide +kernel
theorem dX0_put_18 : decode cX0_put 18 = .ok (.getfield 9, 3) := by decide +kernel
theorem dX0_put_21 : decode cX0_put 21 = .ok (.iload_n 3, 1) := by decide +kernel
theorem dX0_put_22 : decode cX0_put 22 = .ok (.iload 4, 2) := by decide +kernel
theorem dX0_put_24 : decode cX0_put 24 = .ok (.iadd, 1) := by decide +kernel
theorem dX0_put_25 : decode cX0_put 25 = .ok (.aload_n 2, 1) := by decide +kernel
theorem dX0_put_26 : decode cX0_put 26 = .ok (.iload 4, 2) := by decide +kernel
theorem dX0_put_28 : decode cX0_put 28 = .ok (.iaload, 1) := by decide +kernel
theorem dX0_put_29 : decode cX0_put 29 = .ok (.iastore, 1) := by decide +kernel
theorem dX0_put_30 : decode cX0_put 30 = .ok (.iinc 4 1, 3) := by decide +kernel
theorem dX0_put_33 : decode cX0_put 33 = .ok (.goto (-23), 3) := by decide +kernel
theorem dX0_put_36 : decode cX0_put 36 = .ok (.return_, 1) := by decide +kernel
theorem dX0_word_0 : decode cX0_word 0 = .ok (.aload_n 0, 1) := by decide +kernel
theorem dX0_word_1 : decode cX0_word 1 = .ok (.getfield 9, 3) := by decide +kernel
theorem dX0_word_4 : decode cX0_word 4 = .ok (.iload_n 1, 1) := by decide +kernel
theorem dX0_word_5 : decode cX0_word 5 = .ok (.iconst 3, 1) := by decide +kernel
theorem dX0_word_6 : decode cX0_word 6 = .ok (.iand, 1) := by decide +kernel
theorem dX0_word_7 : decode cX0_word 7 = .ok (.bipush 12, 2) := by decide +kernel
theorem dX0_word_9 : decode cX0_word 9 = .ok (.imul, 1) := by decide +kernel
theorem dX0_word_10 : decode cX0_word 10 = .ok (.iload_n 2, 1) := by decide +kernel
theorem dX0_word_11 : decode cX0_word 11 = .ok (.ldc 51, 2) := by decide +kernel
theorem dX0_word_13 : decode cX0_word 13 = .ok (.iand, 1) := by decide +kernel
theorem dX0_word_14 : decode cX0_word 14 = .ok (.bipush 12, 2) := by decide +kernel
theorem dX0_word_16 : decode cX0_word 16 = .ok (.irem, 1) := by decide +kernel
theorem dX0_word_17 : decode cX0_word 17 = .ok (.iadd, 1) := by decide +kernel
theorem dX0_word_18 : decode cX0_word 18 = .ok (.iaload, 1) := by decide +kernel
theorem dX0_word_19 : decode cX0_word 19 = .ok (.ireturn, 1) := by decide +kernel
theorem dX0_add_0 : decode cX0_add 0 = .ok (.aload_n 0, 1) := by decide +kernel
theorem dX0_add_1 : decode cX0_add 1 = .ok (.iload_n 2, 1) := by decide +kernel
theorem dX0_add_2 : decode cX0_add 2 = .ok (.aload_n 0, 1) := by decide +kernel
theorem dX0_add_3 : decode cX0_add 3 = .ok (.getfield 26, 3) := by decide +kernel
theorem dX0_add_6 : decode cX0_add 6 = .ok (.invokevirtual 73, 3) := by decide +kernel
theorem dX0_add_9 : decode cX0_add 9 = .ok (.aload_n 0, 1) := by decide +kernel
theorem dX0_add_10 : decode cX0_add 10 = .ok (.iload_n 3, 1) := by decide +kernel
theorem dX0_add_11 : decode cX0_add 11 = .ok (.aload_n 0, 1) := by decide +kernel
theorem dX0_add_12 : decode cX0_add 12 = .ok (.getfield 29, 3) := by decide +kernel
theorem dX0_add_15 : decode cX0_add 15 = .ok (.invokevirtual 73, 3) := by decide +kernel
theorem dX0_add_18 : decode cX0_add 18 = .ok (.aload_n 0, 1) := by decide +kernel
end
section
set_option maxRecDepth 100000
theorem dX0_add_19 : decode cX0_add 19 = .ok (.aload_n 0, 1) := by decide +kernel
theorem dX0_add_20 : decode cX0_add 20 = .ok (.getfield 26, 3) := by decide +kernel
theorem dX0_add_23 : decode cX0_add 23 = .ok (.aload_n 0, 1) := by decide +kernel
theorem dX0_add_24 : decode cX0_add 24 = .ok (.getfield 29, 3) := by decide +kernel
theorem dX0_add_27 : decode cX0_add 27 = .ok (.aload_n 0, 1) := by decide +kernel
theorem dX0_add_28 : decode cX0_add 28 = .ok (.getfield 32, 3) := by decide +kernel
theorem dX0_add_31 : decode cX0_add 31 = .ok (.invokevirtual 47, 3) := by decide +kernel
theorem dX0_add_34 : decode cX0_add 34 = .ok (.aload_n 0, 1) := by decide +kernel
theorem dX0_add_35 : decode cX0_add 35 = .ok (.iload_n 1, 1) := by decide +kernel
theorem dX0_add_36 : decode cX0_add 36 = .ok (.aload_n 0, 1) := by decide +kernel
theorem dX0_add_37 : decode cX0_add 37 = .ok (.getfield 32, 3) := by decide +kernel
theorem dX0_add_40 : decode cX0_add 40 = .ok (.invokevirtual 69, 3) := by decide +kernel
theorem dX0_add_43 : decode cX0_add 43 = .ok (.return_, 1) := by decide +kernel
theorem dX0_get_0 : decode cX0_get 0 = .ok (.iload_n 1, 1) := by decide +kernel
theorem dX0_get_1 : decode cX0_get 1 = .ok (.iconst 3, 1) := by decide +kernel
theorem dX0_get_2 : decode cX0_get 2 = .ok (.iand, 1) := by decide +kernel
theorem dX0_get_3 : decode cX0_get 3 = .ok (.bipush 12, 2) := by decide +kernel
theorem dX0_get_5 : decode cX0_get 5 = .ok (.imul, 1) := by decide +kernel
theorem dX0_get_6 : decode cX0_get 6 = .ok (.istore_n 3, 1) := by decide +kernel
theorem dX0_get_7 : decode cX0_get 7 = .ok (.iconst 0, 1) := by decide +kernel
theorem dX0_get_8 : decode cX0_get 8 = .ok (.istore 4, 2) := by decide +kernel
theorem dX0_get_10 : decode cX0_get 10 = .ok (.iload 4, 2) := by decide +kernel
theorem dX0_get_12 : decode cX0_get 12 = .ok (.bipush 12, 2) := by decide +kernel
theorem dX0_get_14 : decode cX0_get 14 = .ok (.if_icmp .ge 22, 3) := by decide +kernel
theorem dX0_get_17 : decode cX0_get 17 = .ok (.aload_n 2, 1) := by decide +kernel
theorem dX0_get_18 : decode cX0_get 18 = .ok (.iload 4, 2) := by decide +kernel
theorem dX0_get_20 : decode cX0_get 20 = .ok (.aload_n 0, 1) := by decide +kernel
theorem dX0_get_21 : decode cX0_get 21 = .ok (.getfield 9, 3) := by decide +kernel
theorem dX0_get_24 : decode cX0_get 24 = .ok (.iload_n 3, 1) := by decide +kernel
theorem dX0_get_25 : decode cX0_get 25 = .ok (.iload 4, 2) := by decide +kernel
theorem dX0_get_27 : decode cX0_get 27 = .ok (.iadd, 1) := by decide +kernel
theorem dX0_get_28 : decode cX0_get 28 = .ok (.iaload, 1) := by decide +kernel
theorem dX0_get_29 : decode cX0_get 29 = .ok (.iastore, 1) := by decide +kernel
theorem dX0_get_30 : decode cX0_get 30 = .ok (.iinc 4 1, 3) := by decide +kernel
theorem dX0_get_33 : decode cX0_get 33 = .ok (.goto (-23), 3) := by decide +kernel
theorem dX0_get_36 : decode cX0_get 36 = .ok (.return_, 1) := by decide +kernel
theorem dX0_subtract_0 : decode cX0_subtract 0 = .ok (.aload_n 0, 1) := by decide +kernel
theorem dX0_subtract_1 : decode cX0_subtract 1 = .ok (.iload_n 2, 1) := by decide +kernel
theorem dX0_subtract_2 : decode cX0_subtract 2 = .ok (.aload_n 0, 1) := by decide +kernel
theorem dX0_subtract_3 : decode cX0_subtract 3 = .ok (.getfield 26, 3) := by decide +kernel
theorem dX0_subtract_6 : decode cX0_subtract 6 = .ok (.invokevirtual 73, 3) := by decide +kernel
theorem dX0_subtract_9 : decode cX0_subtract 9 = .ok (.aload_n 0, 1) := by decide +kernel
theorem dX0_subtract_10 : decode cX0_subtract 10 = .ok (.iload_n 3, 1) := by decide +kernel
theorem dX0_subtract_11 : decode cX0_subtract 11 = .ok (.aload_n 0, 1) := by decide +kernel
theorem dX0_subtract_12 : decode cX0_subtract 12 = .ok (.getfield 29, 3) := by decide +kernel
theorem dX0_subtract_15 : decode cX0_subtract 15 = .ok (.invokevirtual 73, 3) := by decide +kernel
theorem dX0_subtract_18 : decode cX0_subtract 18 = .ok (.aload_n 0, 1) := by decide +kernel
theorem dX0_subtract_19 : decode cX0_subtract 19 = .ok (.aload_n 0, 1) := by decide +kernel
theorem dX0_subtract_20 : decode cX0_subtract 20 = .ok (.getfield 26, 3) := by decide +kernel
theorem dX0_subtract_23 : decode cX0_subtract 23 = .ok (.aload_n 0, 1) := by decide +kernel
theorem dX0_subtract_24 : decode cX0_subtract 24 = .ok (.getfield 29, 3) := by decide +kernel
theorem dX0_subtract_27 : decode cX0_subtract 27 = .ok (.aload_n 0, 1) := by decide +kernel
theorem dX0_subtract_28 : decode cX0_subtract 28 = .ok (.getfield 32, 3) := by decide +kernel
theorem dX0_subtract_31 : decode cX0_subtract 31 = .ok (.invokevirtual 76, 3) := by decide +kernel
theorem dX0_subtract_34 : decode cX0_subtract 34 = .ok (.aload_n 0, 1) := by decide +kernel
theorem dX0_subtract_35 : decode cX0_subtract 35 = .ok (.iload_n 1, 1) := by decide +kernel
theorem dX0_subtract_36 : decode cX0_subtract 36 = .ok (.aload_n 0, 1) := by decide +kernel
theorem dX0_subtract_37 : decode cX0_subtract 37 = .ok (.getfield 32, 3) := by decide +kernel
theorem dX0_subtract_40 : decode cX0_subtract 40 = .ok (.invokevirtual 69, 3) := by decide +kernel
theorem dX0_subtract_43 : decode cX0_subtract 43 = .ok (.return_, 1) := by decide +kernel
theorem dX0_differenceOf_0 : decode cX0_differenceOf 0 = .ok (.aload_n 1, 1) := by decide +kernel
theorem dX0_differenceOf_1 : decode cX0_differenceOf 1 = .ok (.aload_n 2, 1) := by decide +kernel
theorem dX0_differenceOf_2 : decode cX0_differenceOf 2 = .ok (.aload_n 3, 1) := by decide +kernel
theorem dX0_differenceOf_3 : decode cX0_differenceOf 3 = .ok (.invokestatic 62, 3) := by decide +kernel
theorem dX0_differenceOf_6 : decode cX0_differenceOf 6 = .ok (.ifCond .eq 13, 3) := by decide +kernel
theorem dX0_differenceOf_9 : decode cX0_differenceOf 9 = .ok (.aload_n 3, 1) := by decide +kernel
theorem dX0_differenceOf_10 : decode cX0_differenceOf 10 = .ok (.aload_n 0, 1) := by decide +kernel
theorem dX0_differenceOf_11 : decode cX0_differenceOf 11 = .ok (.getfield 16, 3) := by decide +kernel
theorem dX0_differenceOf_14 : decode cX0_differenceOf 14 = .ok (.aload_n 3, 1) := by decide +kernel
theorem dX0_differenceOf_15 : decode cX0_differenceOf 15 = .ok (.invokestatic 54, 3) := by decide +kernel
theorem dX0_differenceOf_18 : decode cX0_differenceOf 18 = .ok (.pop, 1) := by decide +kernel
theorem dX0_differenceOf_19 : decode cX0_differenceOf 19 = .ok (.return_, 1) := by decide +kernel
theorem dX0_multiply_0 : decode cX0_multiply 0 = .ok (.aload_n 0, 1) := by decide +kernel
theorem dX0_multiply_1 : decode cX0_multiply 1 = .ok (.iload_n 2, 1) := by decide +kernel
theorem dX0_multiply_2 : decode cX0_multiply 2 = .ok (.aload_n 0, 1) := by decide +kernel
theorem dX0_multiply_3 : decode cX0_multiply 3 = .ok (.getfield 26, 3) := by decide +kernel
theorem dX0_multiply_6 : decode cX0_multiply 6 = .ok (.invokevirtual 73, 3) := by decide +kernel
theorem dX0_multiply_9 : decode cX0_multiply 9 = .ok (.aload_n 0, 1) := by decide +kernel
theorem dX0_multiply_10 : decode cX0_multiply 10 = .ok (.iload_n 3, 1) := by decide +kernel
theorem dX0_multiply_11 : decode cX0_multiply 11 = .ok (.aload_n 0, 1) := by decide +kernel
theorem dX0_multiply_12 : decode cX0_multiply 12 = .ok (.getfield 29, 3) := by decide +kernel
theorem dX0_multiply_15 : decode cX0_multiply 15 = .ok (.invokevirtual 73, 3) := by decide +kernel
theorem dX0_multiply_18 : decode cX0_multiply 18 = .ok (.aload_n 0, 1) := by decide +kernel
theorem dX0_multiply_19 : decode cX0_multiply 19 = .ok (.aload_n 0, 1) := by decide +kernel
theorem dX0_multiply_20 : decode cX0_multiply 20 = .ok (.getfield 26, 3) := by decide +kernel
theorem dX0_multiply_23 : decode cX0_multiply 23 = .ok (.aload_n 0, 1) := by decide +kernel
theorem dX0_multiply_24 : decode cX0_multiply 24 = .ok (.getfield 29, 3) := by decide +kernel
theorem dX0_multiply_27 : decode cX0_multiply 27 = .ok (.aload_n 0, 1) := by decide +kernel
theorem dX0_multiply_28 : decode cX0_multiply 28 = .ok (.getfield 32, 3) := by decide +kernel
theorem dX0_multiply_31 : decode cX0_multiply 31 = .ok (.invokevirtual 79, 3) := by decide +kernel
theorem dX0_multiply_34 : decode cX0_multiply 34 = .ok (.aload_n 0, 1) := by decide +kernel
theorem dX0_multiply_35 : decode cX0_multiply 35 = .ok (.aload_n 0, 1) := by decide +kernel
theorem dX0_multiply_36 : decode cX0_multiply 36 = .ok (.getfield 32, 3) := by decide +kernel
theorem dX0_multiply_39 : decode cX0_multiply 39 = .ok (.aload_n 0, 1) := by decide +kernel
theorem dX0_multiply_40 : decode cX0_multiply 40 = .ok (.getfield 19, 3) := by decide +kernel
theorem dX0_multiply_43 : decode cX0_multiply 43 = .ok (.aload_n 0, 1) := by decide +kernel
theorem dX0_multiply_44 : decode cX0_multiply 44 = .ok (.getfield 26, 3) := by decide +kernel
theorem dX0_multiply_47 : decode cX0_multiply 47 = .ok (.invokevirtual 79, 3) := by decide +kernel
theorem dX0_multiply_50 : decode cX0_multiply 50 = .ok (.aload_n 0, 1) := by decide +kernel
theorem dX0_multiply_51 : decode cX0_multiply 51 = .ok (.iload_n 1, 1) := by decide +kernel
theorem dX0_multiply_52 : decode cX0_multiply 52 = .ok (.aload_n 0, 1) := by decide +kernel
theorem dX0_multiply_53 : decode cX0_multiply 53 = .ok (.getfield 26, 3) := by decide +kernel
theorem dX0_multiply_56 : decode cX0_multiply 56 = .ok (.invokevirtual 69, 3) := by decide +kernel
theorem dX0_multiply_59 : decode cX0_multiply 59 = .ok (.return_, 1) := by decide +kernel
theorem dX0_montgomery_0 : decode cX0_montgomery 0 = .ok (.iconst 0, 1) := by decide +kernel
theorem dX0_montgomery_1 : decode cX0_montgomery 1 = .ok (.istore 4, 2) := by decide +kernel
theorem dX0_montgomery_3 : decode cX0_montgomery 3 = .ok (.iload 4, 2) := by decide +kernel
theorem dX0_montgomery_5 : decode cX0_montgomery 5 = .ok (.aload_n 0, 1) := by decide +kernel
theorem dX0_montgomery_6 : decode cX0_montgomery 6 = .ok (.getfield 22, 3) := by decide +kernel
theorem dX0_montgomery_9 : decode cX0_montgomery 9 = .ok (.arraylength, 1) := by decide +kernel
theorem dX0_montgomery_10 : decode cX0_montgomery 10 = .ok (.if_icmp .ge 17, 3) := by decide +kernel
theorem dX0_montgomery_13 : decode cX0_montgomery 13 = .ok (.aload_n 0, 1) := by decide +kernel
theorem dX0_montgomery_14 : decode cX0_montgomery 14 = .ok (.getfield 22, 3) := by decide +kernel
theorem dX0_montgomery_17 : decode cX0_montgomery 17 = .ok (.iload 4, 2) := by decide +kernel
theorem dX0_montgomery_19 : decode cX0_montgomery 19 = .ok (.lconst 0, 1) := by decide +kernel
theorem dX0_montgomery_20 : decode cX0_montgomery 20 = .ok (.lastore, 1) := by decide +kernel
theorem dX0_montgomery_21 : decode cX0_montgomery 21 = .ok (.iinc 4 1, 3) := by decide +kernel
theorem dX0_montgomery_24 : decode cX0_montgomery 24 = .ok (.goto (-21), 3) := by decide +kernel
theorem dX0_montgomery_27 : decode cX0_montgomery 27 = .ok (.iconst 0, 1) := by decide +kernel
theorem dX0_montgomery_28 : decode cX0_montgomery 28 = .ok (.istore 4, 2) := by decide +kernel
theorem dX0_montgomery_30 : decode cX0_montgomery 30 = .ok (.iload 4, 2) := by decide +kernel
theorem dX0_montgomery_32 : decode cX0_montgomery 32 = .ok (.bipush 12, 2) := by decide +kernel
theorem dX0_montgomery_34 : decode cX0_montgomery 34 = .ok (.if_icmp .ge 77, 3) := by decide +kernel
theorem dX0_montgomery_37 : decode cX0_montgomery 37 = .ok (.aload_n 0, 1) := by decide +kernel
theorem dX0_montgomery_38 : decode cX0_montgomery 38 = .ok (.aload_n 1, 1) := by decide +kernel
theorem dX0_montgomery_39 : decode cX0_montgomery 39 = .ok (.iload 4, 2) := by decide +kernel
theorem dX0_montgomery_41 : decode cX0_montgomery 41 = .ok (.iaload, 1) := by decide +kernel
theorem dX0_montgomery_42 : decode cX0_montgomery 42 = .ok (.i2l, 1) := by decide +kernel
theorem dX0_montgomery_43 : decode cX0_montgomery 43 = .ok (.ldc2_w 52, 3) := by decide +kernel
theorem dX0_montgomery_46 : decode cX0_montgomery 46 = .ok (.land, 1) := by decide +kernel
theorem dX0_montgomery_47 : decode cX0_montgomery 47 = .ok (.aload_n 2, 1) := by decide +kernel
theorem dX0_montgomery_48 : decode cX0_montgomery 48 = .ok (.invokevirtual 65, 3) := by decide +kernel
theorem dX0_montgomery_51 : decode cX0_montgomery 51 = .ok (.aload_n 0, 1) := by decide +kernel
theorem dX0_montgomery_52 : decode cX0_montgomery 52 = .ok (.aload_n 0, 1) := by decide +kernel
theorem dX0_montgomery_53 : decode cX0_montgomery 53 = .ok (.getfield 22, 3) := by decide +kernel
theorem dX0_montgomery_56 : decode cX0_montgomery 56 = .ok (.iconst 0, 1) := by decide +kernel
theorem dX0_montgomery_57 : decode cX0_montgomery 57 = .ok (.laload, 1) := by decide +kernel
theorem dX0_montgomery_58 : decode cX0_montgomery 58 = .ok (.aload_n 0, 1) := by decide +kernel
theorem dX0_montgomery_59 : decode cX0_montgomery 59 = .ok (.getfield 16, 3) := by decide +kernel
theorem dX0_montgomery_62 : decode cX0_montgomery 62 = .ok (.invokevirtual 65, 3) := by decide +kernel
theorem dX0_montgomery_65 : decode cX0_montgomery 65 = .ok (.iconst 0, 1) := by decide +kernel
theorem dX0_montgomery_66 : decode cX0_montgomery 66 = .ok (.istore 5, 2) := by decide +kernel
theorem dX0_montgomery_68 : decode cX0_montgomery 68 = .ok (.iload 5, 2) := by decide +kernel
theorem dX0_montgomery_70 : decode cX0_montgomery 70 = .ok (.bipush 12, 2) := by decide +kernel
theorem dX0_montgomery_72 : decode cX0_montgomery 72 = .ok (.if_icmp .gt 25, 3) := by decide +kernel
theorem dX0_montgomery_75 : decode cX0_montgomery 75 = .ok (.aload_n 0, 1) := by decide +kernel
theorem dX0_montgomery_76 : decode cX0_montgomery 76 = .ok (.getfield 22, 3) := by decide +kernel
theorem dX0_montgomery_79 : decode cX0_montgomery 79 = .ok (.iload 5, 2) := by decide +kernel
theorem dX0_montgomery_81 : decode cX0_montgomery 81 = .ok (.aload_n 0, 1) := by decide +kernel
theorem dX0_montgomery_82 : decode cX0_montgomery 82 = .ok (.getfield 22, 3) := by decide +kernel
theorem dX0_montgomery_85 : decode cX0_montgomery 85 = .ok (.iload 5, 2) := by decide +kernel
theorem dX0_montgomery_87 : decode cX0_montgomery 87 = .ok (.iconst 1, 1) := by decide +kernel
theorem dX0_montgomery_88 : decode cX0_montgomery 88 = .ok (.iadd, 1) := by decide +kernel
theorem dX0_montgomery_89 : decode cX0_montgomery 89 = .ok (.laload, 1) := by decide +kernel
theorem dX0_montgomery_90 : decode cX0_montgomery 90 = .ok (.lastore, 1) := by decide +kernel
theorem dX0_montgomery_91 : decode cX0_montgomery 91 = .ok (.iinc 5 1, 3) := by decide +kernel
theorem dX0_montgomery_94 : decode cX0_montgomery 94 = .ok (.goto (-26), 3) := by decide +kernel
theorem dX0_montgomery_97 : decode cX0_montgomery 97 = .ok (.aload_n 0, 1) := by decide +kernel
theorem dX0_montgomery_98 : decode cX0_montgomery 98 = .ok (.getfield 22, 3) := by decide +kernel
theorem dX0_montgomery_101 : decode cX0_montgomery 101 = .ok (.bipush 13, 2) := by decide +kernel
theorem dX0_montgomery_103 : decode cX0_montgomery 103 = .ok (.lconst 0, 1) := by decide +kernel
theorem dX0_montgomery_104 : decode cX0_montgomery 104 = .ok (.lastore, 1) := by decide +kernel
theorem dX0_montgomery_105 : decode cX0_montgomery 105 = .ok (.iinc 4 1, 3) := by decide +kernel
theorem dX0_montgomery_108 : decode cX0_montgomery 108 = .ok (.goto (-78), 3) := by decide +kernel
theorem dX0_montgomery_111 : decode cX0_montgomery 111 = .ok (.aload_n 0, 1) := by decide +kernel
theorem dX0_montgomery_112 : decode cX0_montgomery 112 = .ok (.getfield 22, 3) := by decide +kernel
theorem dX0_montgomery_115 : decode cX0_montgomery 115 = .ok (.bipush 12, 2) := by decide +kernel
theorem dX0_montgomery_117 : decode cX0_montgomery 117 = .ok (.laload, 1) := by decide +kernel
theorem dX0_montgomery_118 : decode cX0_montgomery 118 = .ok (.lconst 0, 1) := by decide +kernel
theorem dX0_montgomery_119 : decode cX0_montgomery 119 = .ok (.lcmp, 1) := by decide +kernel
theorem dX0_montgomery_120 : decode cX0_montgomery 120 = .ok (.ifCond .eq 7, 3) := by decide +kernel
theorem dX0_montgomery_123 : decode cX0_montgomery 123 = .ok (.iconst 1, 1) := by decide +kernel
theorem dX0_montgomery_124 : decode cX0_montgomery 124 = .ok (.goto 4, 3) := by decide +kernel
theorem dX0_montgomery_127 : decode cX0_montgomery 127 = .ok (.iconst 0, 1) := by decide +kernel
theorem dX0_montgomery_128 : decode cX0_montgomery 128 = .ok (.istore 4, 2) := by decide +kernel
theorem dX0_montgomery_130 : decode cX0_montgomery 130 = .ok (.iconst 0, 1) := by decide +kernel
theorem dX0_montgomery_131 : decode cX0_montgomery 131 = .ok (.istore 5, 2) := by decide +kernel
theorem dX0_montgomery_133 : decode cX0_montgomery 133 = .ok (.iload 5, 2) := by decide +kernel
theorem dX0_montgomery_135 : decode cX0_montgomery 135 = .ok (.bipush 12, 2) := by decide +kernel
theorem dX0_montgomery_137 : decode cX0_montgomery 137 = .ok (.if_icmp .ge 21, 3) := by decide +kernel
theorem dX0_montgomery_140 : decode cX0_montgomery 140 = .ok (.aload_n 3, 1) := by decide +kernel
theorem dX0_montgomery_141 : decode cX0_montgomery 141 = .ok (.iload 5, 2) := by decide +kernel
theorem dX0_montgomery_143 : decode cX0_montgomery 143 = .ok (.aload_n 0, 1) := by decide +kernel
theorem dX0_montgomery_144 : decode cX0_montgomery 144 = .ok (.getfield 22, 3) := by decide +kernel
theorem dX0_montgomery_147 : decode cX0_montgomery 147 = .ok (.iload 5, 2) := by decide +kernel
theorem dX0_montgomery_149 : decode cX0_montgomery 149 = .ok (.laload, 1) := by decide +kernel
theorem dX0_montgomery_150 : decode cX0_montgomery 150 = .ok (.l2i, 1) := by decide +kernel
theorem dX0_montgomery_151 : decode cX0_montgomery 151 = .ok (.iastore, 1) := by decide +kernel
theorem dX0_montgomery_152 : decode cX0_montgomery 152 = .ok (.iinc 5 1, 3) := by decide +kernel
theorem dX0_montgomery_155 : decode cX0_montgomery 155 = .ok (.goto (-22), 3) := by decide +kernel
theorem dX0_montgomery_158 : decode cX0_montgomery 158 = .ok (.iload 4, 2) := by decide +kernel
theorem dX0_montgomery_160 : decode cX0_montgomery 160 = .ok (.ifCond .ne 14, 3) := by decide +kernel
theorem dX0_montgomery_163 : decode cX0_montgomery 163 = .ok (.aload_n 3, 1) := by decide +kernel
theorem dX0_montgomery_164 : decode cX0_montgomery 164 = .ok (.aload_n 0, 1) := by decide +kernel
theorem dX0_montgomery_165 : decode cX0_montgomery 165 = .ok (.getfield 16, 3) := by decide +kernel
theorem dX0_montgomery_168 : decode cX0_montgomery 168 = .ok (.invokestatic 58, 3) := by decide +kernel
theorem dX0_montgomery_171 : decode cX0_montgomery 171 = .ok (.ifCond .ne 13, 3) := by decide +kernel
theorem dX0_montgomery_174 : decode cX0_montgomery 174 = .ok (.aload_n 3, 1) := by decide +kernel
theorem dX0_montgomery_175 : decode cX0_montgomery 175 = .ok (.aload_n 0, 1) := by decide +kernel
theorem dX0_montgomery_176 : decode cX0_montgomery 176 = .ok (.getfield 16, 3) := by decide +kernel
theorem dX0_montgomery_179 : decode cX0_montgomery 179 = .ok (.aload_n 3, 1) := by decide +kernel
theorem dX0_montgomery_180 : decode cX0_montgomery 180 = .ok (.invokestatic 62, 3) := by decide +kernel
theorem dX0_montgomery_183 : decode cX0_montgomery 183 = .ok (.pop, 1) := by decide +kernel
theorem dX0_montgomery_184 : decode cX0_montgomery 184 = .ok (.return_, 1) := by decide +kernel
theorem dX0_addProduct_0 : decode cX0_addProduct 0 = .ok (.lconst 0, 1) := by decide +kernel
theorem dX0_addProduct_1 : decode cX0_addProduct 1 = .ok (.lstore 4, 2) := by decide +kernel
theorem dX0_addProduct_3 : decode cX0_addProduct 3 = .ok (.iconst 0, 1) := by decide +kernel
theorem dX0_addProduct_4 : decode cX0_addProduct 4 = .ok (.istore 6, 2) := by decide +kernel
theorem dX0_addProduct_6 : decode cX0_addProduct 6 = .ok (.iload 6, 2) := by decide +kernel
theorem dX0_addProduct_8 : decode cX0_addProduct 8 = .ok (.bipush 12, 2) := by decide +kernel
theorem dX0_addProduct_10 : decode cX0_addProduct 10 = .ok (.if_icmp .ge 53, 3) := by decide +kernel
theorem dX0_addProduct_13 : decode cX0_addProduct 13 = .ok (.lload 4, 2) := by decide +kernel
theorem dX0_addProduct_15 : decode cX0_addProduct 15 = .ok (.lload_n 1, 1) := by decide +kernel
theorem dX0_addProduct_16 : decode cX0_addProduct 16 = .ok (.aload_n 3, 1) := by decide +kernel
theorem dX0_addProduct_17 : decode cX0_addProduct 17 = .ok (.iload 6, 2) := by decide +kernel
theorem dX0_addProduct_19 : decode cX0_addProduct 19 = .ok (.iaload, 1) := by decide +kernel
theorem dX0_addProduct_20 : decode cX0_addProduct 20 = .ok (.i2l, 1) := by decide +kernel
theorem dX0_addProduct_21 : decode cX0_addProduct 21 = .ok (.ldc2_w 52, 3) := by decide +kernel
theorem dX0_addProduct_24 : decode cX0_addProduct 24 = .ok (.land, 1) := by decide +kernel
theorem dX0_addProduct_25 : decode cX0_addProduct 25 = .ok (.lmul, 1) := by decide +kernel
theorem dX0_addProduct_26 : decode cX0_addProduct 26 = .ok (.aload_n 0, 1) := by decide +kernel
theorem dX0_addProduct_27 : decode cX0_addProduct 27 = .ok (.getfield 22, 3) := by decide +kernel
theorem dX0_addProduct_30 : decode cX0_addProduct 30 = .ok (.iload 6, 2) := by decide +kernel
theorem dX0_addProduct_32 : decode cX0_addProduct 32 = .ok (.laload, 1) := by decide +kernel
theorem dX0_addProduct_33 : decode cX0_addProduct 33 = .ok (.ladd, 1) := by decide +kernel
theorem dX0_addProduct_34 : decode cX0_addProduct 34 = .ok (.ladd, 1) := by decide +kernel
theorem dX0_addProduct_35 : decode cX0_addProduct 35 = .ok (.lstore 4, 2) := by decide +kernel
theorem dX0_addProduct_37 : decode cX0_addProduct 37 = .ok (.aload_n 0, 1) := by decide +kernel
theorem dX0_addProduct_38 : decode cX0_addProduct 38 = .ok (.getfield 22, 3) := by decide +kernel
theorem dX0_addProduct_41 : decode cX0_addProduct 41 = .ok (.iload 6, 2) := by decide +kernel
theorem dX0_addProduct_43 : decode cX0_addProduct 43 = .ok (.lload 4, 2) := by decide +kernel
theorem dX0_addProduct_45 : decode cX0_addProduct 45 = .ok (.ldc2_w 52, 3) := by decide +kernel
theorem dX0_addProduct_48 : decode cX0_addProduct 48 = .ok (.land, 1) := by decide +kernel
theorem dX0_addProduct_49 : decode cX0_addProduct 49 = .ok (.lastore, 1) := by decide +kernel
theorem dX0_addProduct_50 : decode cX0_addProduct 50 = .ok (.lload 4, 2) := by decide +kernel
theorem dX0_addProduct_52 : decode cX0_addProduct 52 = .ok (.bipush 32, 2) := by decide +kernel
theorem dX0_addProduct_54 : decode cX0_addProduct 54 = .ok (.lushr, 1) := by decide +kernel
theorem dX0_addProduct_55 : decode cX0_addProduct 55 = .ok (.lstore 4, 2) := by decide +kernel
theorem dX0_addProduct_57 : decode cX0_addProduct 57 = .ok (.iinc 6 1, 3) := by decide +kernel
theorem dX0_addProduct_60 : decode cX0_addProduct 60 = .ok (.goto (-54), 3) := by decide +kernel
theorem dX0_addProduct_63 : decode cX0_addProduct 63 = .ok (.lload 4, 2) := by decide +kernel
theorem dX0_addProduct_65 : decode cX0_addProduct 65 = .ok (.aload_n 0, 1) := by decide +kernel
theorem dX0_addProduct_66 : decode cX0_addProduct 66 = .ok (.getfield 22, 3) := by decide +kernel
theorem dX0_addProduct_69 : decode cX0_addProduct 69 = .ok (.bipush 12, 2) := by decide +kernel
theorem dX0_addProduct_71 : decode cX0_addProduct 71 = .ok (.laload, 1) := by decide +kernel
theorem dX0_addProduct_72 : decode cX0_addProduct 72 = .ok (.ladd, 1) := by decide +kernel
theorem dX0_addProduct_73 : decode cX0_addProduct 73 = .ok (.lstore 4, 2) := by decide +kernel
theorem dX0_addProduct_75 : decode cX0_addProduct 75 = .ok (.aload_n 0, 1) := by decide +kernel
theorem dX0_addProduct_76 : decode cX0_addProduct 76 = .ok (.getfield 22, 3) := by decide +kernel
theorem dX0_addProduct_79 : decode cX0_addProduct 79 = .ok (.bipush 12, 2) := by decide +kernel
theorem dX0_addProduct_81 : decode cX0_addProduct 81 = .ok (.lload 4, 2) := by decide +kernel
theorem dX0_addProduct_83 : decode cX0_addProduct 83 = .ok (.ldc2_w 52, 3) := by decide +kernel
theorem dX0_addProduct_86 : decode cX0_addProduct 86 = .ok (.land, 1) := by decide +kernel
theorem dX0_addProduct_87 : decode cX0_addProduct 87 = .ok (.lastore, 1) := by decide +kernel
theorem dX0_addProduct_88 : decode cX0_addProduct 88 = .ok (.aload_n 0, 1) := by decide +kernel
theorem dX0_addProduct_89 : decode cX0_addProduct 89 = .ok (.getfield 22, 3) := by decide +kernel
theorem dX0_addProduct_92 : decode cX0_addProduct 92 = .ok (.bipush 13, 2) := by decide +kernel
theorem dX0_addProduct_94 : decode cX0_addProduct 94 = .ok (.dup2, 1) := by decide +kernel
theorem dX0_addProduct_95 : decode cX0_addProduct 95 = .ok (.laload, 1) := by decide +kernel
theorem dX0_addProduct_96 : decode cX0_addProduct 96 = .ok (.lload 4, 2) := by decide +kernel
theorem dX0_addProduct_98 : decode cX0_addProduct 98 = .ok (.bipush 32, 2) := by decide +kernel
theorem dX0_addProduct_100 : decode cX0_addProduct 100 = .ok (.lushr, 1) := by decide +kernel
theorem dX0_addProduct_101 : decode cX0_addProduct 101 = .ok (.ladd, 1) := by decide +kernel
theorem dX0_addProduct_102 : decode cX0_addProduct 102 = .ok (.lastore, 1) := by decide +kernel
theorem dX0_addProduct_103 : decode cX0_addProduct 103 = .ok (.return_, 1) := by decide +kernel
theorem dX0_square_0 : decode cX0_square 0 = .ok (.aload_n 0, 1) := by decide +kernel
theorem dX0_square_1 : decode cX0_square 1 = .ok (.iload_n 1, 1) := by decide +kernel
theorem dX0_square_2 : decode cX0_square 2 = .ok (.iload_n 2, 1) := by decide +kernel
theorem dX0_square_3 : decode cX0_square 3 = .ok (.iload_n 2, 1) := by decide +kernel
theorem dX0_square_4 : decode cX0_square 4 = .ok (.invokevirtual 82, 3) := by decide +kernel
theorem dX0_square_7 : decode cX0_square 7 = .ok (.return_, 1) := by decide +kernel
theorem dX0_squares_0 : decode cX0_squares 0 = .ok (.aload_n 0, 1) := by decide +kernel
theorem dX0_squares_1 : decode cX0_squares 1 = .ok (.iload_n 2, 1) := by decide +kernel
theorem dX0_squares_2 : decode cX0_squares 2 = .ok (.aload_n 0, 1) := by decide +kernel
theorem dX0_squares_3 : decode cX0_squares 3 = .ok (.getfield 26, 3) := by decide +kernel
theorem dX0_squares_6 : decode cX0_squares 6 = .ok (.invokevirtual 73, 3) := by decide +kernel
theorem dX0_squares_9 : decode cX0_squares 9 = .ok (.aload_n 0, 1) := by decide +kernel
theorem dX0_squares_10 : decode cX0_squares 10 = .ok (.aload_n 0, 1) := by decide +kernel
theorem dX0_squares_11 : decode cX0_squares 11 = .ok (.getfield 26, 3) := by decide +kernel
theorem dX0_squares_14 : decode cX0_squares 14 = .ok (.aload_n 0, 1) := by decide +kernel
theorem dX0_squares_15 : decode cX0_squares 15 = .ok (.getfield 19, 3) := by decide +kernel
theorem dX0_squares_18 : decode cX0_squares 18 = .ok (.aload_n 0, 1) := by decide +kernel
theorem dX0_squares_19 : decode cX0_squares 19 = .ok (.getfield 29, 3) := by decide +kernel
theorem dX0_squares_22 : decode cX0_squares 22 = .ok (.invokevirtual 79, 3) := by decide +kernel
theorem dX0_squares_25 : decode cX0_squares 25 = .ok (.iload_n 3, 1) := by decide +kernel
theorem dX0_squares_26 : decode cX0_squares 26 = .ok (.bipush 15, 2) := by decide +kernel
theorem dX0_squares_28 : decode cX0_squares 28 = .ok (.iand, 1) := by decide +kernel
theorem dX0_squares_29 : decode cX0_squares 29 = .ok (.istore 4, 2) := by decide +kernel
theorem dX0_squares_31 : decode cX0_squares 31 = .ok (.iload 4, 2) := by decide +kernel
theorem dX0_squares_33 : decode cX0_squares 33 = .ok (.ifCond .lt 55, 3) := by decide +kernel
theorem dX0_squares_36 : decode cX0_squares 36 = .ok (.aload_n 0, 1) := by decide +kernel
theorem dX0_squares_37 : decode cX0_squares 37 = .ok (.aload_n 0, 1) := by decide +kernel
theorem dX0_squares_38 : decode cX0_squares 38 = .ok (.getfield 29, 3) := by decide +kernel
theorem dX0_squares_41 : decode cX0_squares 41 = .ok (.aload_n 0, 1) := by decide +kernel
theorem dX0_squares_42 : decode cX0_squares 42 = .ok (.getfield 29, 3) := by decide +kernel
theorem dX0_squares_45 : decode cX0_squares 45 = .ok (.aload_n 0, 1) := by decide +kernel
theorem dX0_squares_46 : decode cX0_squares 46 = .ok (.getfield 32, 3) := by decide +kernel
theorem dX0_squares_49 : decode cX0_squares 49 = .ok (.invokevirtual 79, 3) := by decide +kernel
theorem dX0_squares_52 : decode cX0_squares 52 = .ok (.iconst 0, 1) := by decide +kernel
theorem dX0_squares_53 : decode cX0_squares 53 = .ok (.istore 5, 2) := by decide +kernel
theorem dX0_squares_55 : decode cX0_squares 55 = .ok (.iload 5, 2) := by decide +kernel
theorem dX0_squares_57 : decode cX0_squares 57 = .ok (.bipush 12, 2) := by decide +kernel
theorem dX0_squares_59 : decode cX0_squares 59 = .ok (.if_icmp .ge 23, 3) := by decide +kernel
theorem dX0_squares_62 : decode cX0_squares 62 = .ok (.aload_n 0, 1) := by decide +kernel
theorem dX0_squares_63 : decode cX0_squares 63 = .ok (.getfield 29, 3) := by decide +kernel
theorem dX0_squares_66 : decode cX0_squares 66 = .ok (.iload 5, 2) := by decide +kernel
theorem dX0_squares_68 : decode cX0_squares 68 = .ok (.aload_n 0, 1) := by decide +kernel
theorem dX0_squares_69 : decode cX0_squares 69 = .ok (.getfield 32, 3) := by decide +kernel
theorem dX0_squares_72 : decode cX0_squares 72 = .ok (.iload 5, 2) := by decide +kernel
theorem dX0_squares_74 : decode cX0_squares 74 = .ok (.iaload, 1) := by decide +kernel
theorem dX0_squares_75 : decode cX0_squares 75 = .ok (.iastore, 1) := by decide +kernel
theorem dX0_squares_76 : decode cX0_squares 76 = .ok (.iinc 5 1, 3) := by decide +kernel
theorem dX0_squares_79 : decode cX0_squares 79 = .ok (.goto (-24), 3) := by decide +kernel
theorem dX0_squares_82 : decode cX0_squares 82 = .ok (.iinc 4 (-1), 3) := by decide +kernel
theorem dX0_squares_85 : decode cX0_squares 85 = .ok (.goto (-54), 3) := by decide +kernel
theorem dX0_squares_88 : decode cX0_squares 88 = .ok (.iconst 0, 1) := by decide +kernel
theorem dX0_squares_89 : decode cX0_squares 89 = .ok (.istore 4, 2) := by decide +kernel
theorem dX0_squares_91 : decode cX0_squares 91 = .ok (.iload 4, 2) := by decide +kernel
theorem dX0_squares_93 : decode cX0_squares 93 = .ok (.bipush 12, 2) := by decide +kernel
theorem dX0_squares_95 : decode cX0_squares 95 = .ok (.if_icmp .ge 17, 3) := by decide +kernel
theorem dX0_squares_98 : decode cX0_squares 98 = .ok (.aload_n 0, 1) := by decide +kernel
theorem dX0_squares_99 : decode cX0_squares 99 = .ok (.getfield 26, 3) := by decide +kernel
theorem dX0_squares_102 : decode cX0_squares 102 = .ok (.iload 4, 2) := by decide +kernel
theorem dX0_squares_104 : decode cX0_squares 104 = .ok (.iconst 0, 1) := by decide +kernel
theorem dX0_squares_105 : decode cX0_squares 105 = .ok (.iastore, 1) := by decide +kernel
theorem dX0_squares_106 : decode cX0_squares 106 = .ok (.iinc 4 1, 3) := by decide +kernel
theorem dX0_squares_109 : decode cX0_squares 109 = .ok (.goto (-18), 3) := by decide +kernel
theorem dX0_squares_112 : decode cX0_squares 112 = .ok (.aload_n 0, 1) := by decide +kernel
theorem dX0_squares_113 : decode cX0_squares 113 = .ok (.getfield 26, 3) := by decide +kernel
theorem dX0_squares_116 : decode cX0_squares 116 = .ok (.iconst 0, 1) := by decide +kernel
theorem dX0_squares_117 : decode cX0_squares 117 = .ok (.iconst 1, 1) := by decide +kernel
theorem dX0_squares_118 : decode cX0_squares 118 = .ok (.iastore, 1) := by decide +kernel
theorem dX0_squares_119 : decode cX0_squares 119 = .ok (.aload_n 0, 1) := by decide +kernel
theorem dX0_squares_120 : decode cX0_squares 120 = .ok (.aload_n 0, 1) := by decide +kernel
theorem dX0_squares_121 : decode cX0_squares 121 = .ok (.getfield 29, 3) := by decide +kernel
theorem dX0_squares_124 : decode cX0_squares 124 = .ok (.aload_n 0, 1) := by decide +kernel
theorem dX0_squares_125 : decode cX0_squares 125 = .ok (.getfield 26, 3) := by decide +kernel
theorem dX0_squares_128 : decode cX0_squares 128 = .ok (.aload_n 0, 1) := by decide +kernel
theorem dX0_squares_129 : decode cX0_squares 129 = .ok (.getfield 32, 3) := by decide +kernel
theorem dX0_squares_132 : decode cX0_squares 132 = .ok (.invokevirtual 79, 3) := by decide +kernel
theorem dX0_squares_135 : decode cX0_squares 135 = .ok (.aload_n 0, 1) := by decide +kernel
theorem dX0_squares_136 : decode cX0_squares 136 = .ok (.iload_n 1, 1) := by decide +kernel
theorem dX0_squares_137 : decode cX0_squares 137 = .ok (.aload_n 0, 1) := by decide +kernel
theorem dX0_squares_138 : decode cX0_squares 138 = .ok (.getfield 32, 3) := by decide +kernel
theorem dX0_squares_141 : decode cX0_squares 141 = .ok (.invokevirtual 69, 3) := by decide +kernel
theorem dX0_squares_144 : decode cX0_squares 144 = .ok (.return_, 1) := by decide +kernel
theorem dX0_twice_0 : decode cX0_twice 0 = .ok (.aload_n 0, 1) := by decide +kernel
theorem dX0_twice_1 : decode cX0_twice 1 = .ok (.iload_n 1, 1) := by decide +kernel
theorem dX0_twice_2 : decode cX0_twice 2 = .ok (.iload_n 2, 1) := by decide +kernel
theorem dX0_twice_3 : decode cX0_twice 3 = .ok (.iload_n 2, 1) := by decide +kernel
end
section
set_option maxRecDepth 100000
theorem dX0_twice_4 : decode cX0_twice 4 = .ok (.invokevirtual 86, 3) := by decide +kernel
theorem dX0_twice_7 : decode cX0_twice 7 = .ok (.return_, 1) := by decide +kernel
theorem dX0_halve_0 : decode cX0_halve 0 = .ok (.aload_n 0, 1) := by decide +kernel
theorem dX0_halve_1 : decode cX0_halve 1 = .ok (.iload_n 2, 1) := by decide +kernel
theorem dX0_halve_2 : decode cX0_halve 2 = .ok (.aload_n 0, 1) := by decide +kernel
theorem dX0_halve_3 : decode cX0_halve 3 = .ok (.getfield 32, 3) := by decide +kernel
theorem dX0_halve_6 : decode cX0_halve 6 = .ok (.invokevirtual 73, 3) := by decide +kernel
theorem dX0_halve_9 : decode cX0_halve 9 = .ok (.aload_n 0, 1) := by decide +kernel
theorem dX0_halve_10 : decode cX0_halve 10 = .ok (.aload_n 0, 1) := by decide +kernel
theorem dX0_halve_11 : decode cX0_halve 11 = .ok (.getfield 32, 3) := by decide +kernel
theorem dX0_halve_14 : decode cX0_halve 14 = .ok (.invokevirtual 89, 3) := by decide +kernel
theorem dX0_halve_17 : decode cX0_halve 17 = .ok (.aload_n 0, 1) := by decide +kernel
theorem dX0_halve_18 : decode cX0_halve 18 = .ok (.iload_n 1, 1) := by decide +kernel
theorem dX0_halve_19 : decode cX0_halve 19 = .ok (.aload_n 0, 1) := by decide +kernel
theorem dX0_halve_20 : decode cX0_halve 20 = .ok (.getfield 32, 3) := by decide +kernel
theorem dX0_halve_23 : decode cX0_halve 23 = .ok (.invokevirtual 69, 3) := by decide +kernel
theorem dX0_halve_26 : decode cX0_halve 26 = .ok (.return_, 1) := by decide +kernel
theorem dX0_half_0 : decode cX0_half 0 = .ok (.aload_n 1, 1) := by decide +kernel
theorem dX0_half_1 : decode cX0_half 1 = .ok (.iconst 0, 1) := by decide +kernel
theorem dX0_half_2 : decode cX0_half 2 = .ok (.iaload, 1) := by decide +kernel
theorem dX0_half_3 : decode cX0_half 3 = .ok (.iconst 1, 1) := by decide +kernel
theorem dX0_half_4 : decode cX0_half 4 = .ok (.iand, 1) := by decide +kernel
theorem dX0_half_5 : decode cX0_half 5 = .ok (.iconst 1, 1) := by decide +kernel
theorem dX0_half_6 : decode cX0_half 6 = .ok (.if_icmp .ne 15, 3) := by decide +kernel
theorem dX0_half_9 : decode cX0_half 9 = .ok (.aload_n 1, 1) := by decide +kernel
theorem dX0_half_10 : decode cX0_half 10 = .ok (.aload_n 0, 1) := by decide +kernel
theorem dX0_half_11 : decode cX0_half 11 = .ok (.getfield 16, 3) := by decide +kernel
theorem dX0_half_14 : decode cX0_half 14 = .ok (.aload_n 1, 1) := by decide +kernel
theorem dX0_half_15 : decode cX0_half 15 = .ok (.invokestatic 54, 3) := by decide +kernel
theorem dX0_half_18 : decode cX0_half 18 = .ok (.goto 4, 3) := by decide +kernel
theorem dX0_half_21 : decode cX0_half 21 = .ok (.iconst 0, 1) := by decide +kernel
theorem dX0_half_22 : decode cX0_half 22 = .ok (.istore_n 2, 1) := by decide +kernel
theorem dX0_half_23 : decode cX0_half 23 = .ok (.iconst 0, 1) := by decide +kernel
theorem dX0_half_24 : decode cX0_half 24 = .ok (.istore_n 3, 1) := by decide +kernel
theorem dX0_half_25 : decode cX0_half 25 = .ok (.iload_n 3, 1) := by decide +kernel
theorem dX0_half_26 : decode cX0_half 26 = .ok (.bipush 11, 2) := by decide +kernel
theorem dX0_half_28 : decode cX0_half 28 = .ok (.if_icmp .ge 26, 3) := by decide +kernel
theorem dX0_half_31 : decode cX0_half 31 = .ok (.aload_n 1, 1) := by decide +kernel
theorem dX0_half_32 : decode cX0_half 32 = .ok (.iload_n 3, 1) := by decide +kernel
theorem dX0_half_33 : decode cX0_half 33 = .ok (.aload_n 1, 1) := by decide +kernel
theorem dX0_half_34 : decode cX0_half 34 = .ok (.iload_n 3, 1) := by decide +kernel
theorem dX0_half_35 : decode cX0_half 35 = .ok (.iaload, 1) := by decide +kernel
theorem dX0_half_36 : decode cX0_half 36 = .ok (.iconst 1, 1) := by decide +kernel
theorem dX0_half_37 : decode cX0_half 37 = .ok (.iushr, 1) := by decide +kernel
theorem dX0_half_38 : decode cX0_half 38 = .ok (.aload_n 1, 1) := by decide +kernel
theorem dX0_half_39 : decode cX0_half 39 = .ok (.iload_n 3, 1) := by decide +kernel
theorem dX0_half_40 : decode cX0_half 40 = .ok (.iconst 1, 1) := by decide +kernel
theorem dX0_half_41 : decode cX0_half 41 = .ok (.iadd, 1) := by decide +kernel
theorem dX0_half_42 : decode cX0_half 42 = .ok (.iaload, 1) := by decide +kernel
theorem dX0_half_43 : decode cX0_half 43 = .ok (.bipush 31, 2) := by decide +kernel
theorem dX0_half_45 : decode cX0_half 45 = .ok (.ishl, 1) := by decide +kernel
theorem dX0_half_46 : decode cX0_half 46 = .ok (.ior, 1) := by decide +kernel
theorem dX0_half_47 : decode cX0_half 47 = .ok (.iastore, 1) := by decide +kernel
theorem dX0_half_48 : decode cX0_half 48 = .ok (.iinc 3 1, 3) := by decide +kernel
theorem dX0_half_51 : decode cX0_half 51 = .ok (.goto (-26), 3) := by decide +kernel
theorem dX0_half_54 : decode cX0_half 54 = .ok (.aload_n 1, 1) := by decide +kernel
theorem dX0_half_55 : decode cX0_half 55 = .ok (.bipush 11, 2) := by decide +kernel
theorem dX0_half_57 : decode cX0_half 57 = .ok (.aload_n 1, 1) := by decide +kernel
theorem dX0_half_58 : decode cX0_half 58 = .ok (.bipush 11, 2) := by decide +kernel
theorem dX0_half_60 : decode cX0_half 60 = .ok (.iaload, 1) := by decide +kernel
theorem dX0_half_61 : decode cX0_half 61 = .ok (.iconst 1, 1) := by decide +kernel
theorem dX0_half_62 : decode cX0_half 62 = .ok (.iushr, 1) := by decide +kernel
theorem dX0_half_63 : decode cX0_half 63 = .ok (.iload_n 2, 1) := by decide +kernel
theorem dX0_half_64 : decode cX0_half 64 = .ok (.bipush 31, 2) := by decide +kernel
theorem dX0_half_66 : decode cX0_half 66 = .ok (.ishl, 1) := by decide +kernel
theorem dX0_half_67 : decode cX0_half 67 = .ok (.ior, 1) := by decide +kernel
theorem dX0_half_68 : decode cX0_half 68 = .ok (.iastore, 1) := by decide +kernel
theorem dX0_half_69 : decode cX0_half 69 = .ok (.return_, 1) := by decide +kernel
theorem dX0_negate_0 : decode cX0_negate 0 = .ok (.aload_n 0, 1) := by decide +kernel
theorem dX0_negate_1 : decode cX0_negate 1 = .ok (.iload_n 2, 1) := by decide +kernel
theorem dX0_negate_2 : decode cX0_negate 2 = .ok (.aload_n 0, 1) := by decide +kernel
theorem dX0_negate_3 : decode cX0_negate 3 = .ok (.getfield 26, 3) := by decide +kernel
theorem dX0_negate_6 : decode cX0_negate 6 = .ok (.invokevirtual 73, 3) := by decide +kernel
theorem dX0_negate_9 : decode cX0_negate 9 = .ok (.iconst 0, 1) := by decide +kernel
theorem dX0_negate_10 : decode cX0_negate 10 = .ok (.istore_n 3, 1) := by decide +kernel
theorem dX0_negate_11 : decode cX0_negate 11 = .ok (.iload_n 3, 1) := by decide +kernel
theorem dX0_negate_12 : decode cX0_negate 12 = .ok (.bipush 12, 2) := by decide +kernel
theorem dX0_negate_14 : decode cX0_negate 14 = .ok (.if_icmp .ge 16, 3) := by decide +kernel
theorem dX0_negate_17 : decode cX0_negate 17 = .ok (.aload_n 0, 1) := by decide +kernel
theorem dX0_negate_18 : decode cX0_negate 18 = .ok (.getfield 29, 3) := by decide +kernel
theorem dX0_negate_21 : decode cX0_negate 21 = .ok (.iload_n 3, 1) := by decide +kernel
theorem dX0_negate_22 : decode cX0_negate 22 = .ok (.iconst 0, 1) := by decide +kernel
theorem dX0_negate_23 : decode cX0_negate 23 = .ok (.iastore, 1) := by decide +kernel
theorem dX0_negate_24 : decode cX0_negate 24 = .ok (.iinc 3 1, 3) := by decide +kernel
theorem dX0_negate_27 : decode cX0_negate 27 = .ok (.goto (-16), 3) := by decide +kernel
theorem dX0_negate_30 : decode cX0_negate 30 = .ok (.aload_n 0, 1) := by decide +kernel
theorem dX0_negate_31 : decode cX0_negate 31 = .ok (.aload_n 0, 1) := by decide +kernel
theorem dX0_negate_32 : decode cX0_negate 32 = .ok (.getfield 29, 3) := by decide +kernel
theorem dX0_negate_35 : decode cX0_negate 35 = .ok (.aload_n 0, 1) := by decide +kernel
theorem dX0_negate_36 : decode cX0_negate 36 = .ok (.getfield 26, 3) := by decide +kernel
theorem dX0_negate_39 : decode cX0_negate 39 = .ok (.aload_n 0, 1) := by decide +kernel
theorem dX0_negate_40 : decode cX0_negate 40 = .ok (.getfield 32, 3) := by decide +kernel
theorem dX0_negate_43 : decode cX0_negate 43 = .ok (.invokevirtual 76, 3) := by decide +kernel
theorem dX0_negate_46 : decode cX0_negate 46 = .ok (.aload_n 0, 1) := by decide +kernel
theorem dX0_negate_47 : decode cX0_negate 47 = .ok (.iload_n 1, 1) := by decide +kernel
theorem dX0_negate_48 : decode cX0_negate 48 = .ok (.aload_n 0, 1) := by decide +kernel
theorem dX0_negate_49 : decode cX0_negate 49 = .ok (.getfield 32, 3) := by decide +kernel
theorem dX0_negate_52 : decode cX0_negate 52 = .ok (.invokevirtual 69, 3) := by decide +kernel
theorem dX0_negate_55 : decode cX0_negate 55 = .ok (.return_, 1) := by decide +kernel
theorem dX0_invert_0 : decode cX0_invert 0 = .ok (.aload_n 0, 1) := by decide +kernel
theorem dX0_invert_1 : decode cX0_invert 1 = .ok (.iload_n 2, 1) := by decide +kernel
theorem dX0_invert_2 : decode cX0_invert 2 = .ok (.aload_n 0, 1) := by decide +kernel
theorem dX0_invert_3 : decode cX0_invert 3 = .ok (.getfield 35, 3) := by decide +kernel
theorem dX0_invert_6 : decode cX0_invert 6 = .ok (.invokevirtual 73, 3) := by decide +kernel
theorem dX0_invert_9 : decode cX0_invert 9 = .ok (.aload_n 0, 1) := by decide +kernel
theorem dX0_invert_10 : decode cX0_invert 10 = .ok (.getfield 35, 3) := by decide +kernel
theorem dX0_invert_13 : decode cX0_invert 13 = .ok (.invokestatic 96, 3) := by decide +kernel
theorem dX0_invert_16 : decode cX0_invert 16 = .ok (.ifCond .eq 5, 3) := by decide +kernel
theorem dX0_invert_19 : decode cX0_invert 19 = .ok (.iconst 0, 1) := by decide +kernel
theorem dX0_invert_20 : decode cX0_invert 20 = .ok (.ireturn, 1) := by decide +kernel
theorem dX0_invert_21 : decode cX0_invert 21 = .ok (.iconst 0, 1) := by decide +kernel
theorem dX0_invert_22 : decode cX0_invert 22 = .ok (.istore_n 3, 1) := by decide +kernel
theorem dX0_invert_23 : decode cX0_invert 23 = .ok (.iload_n 3, 1) := by decide +kernel
theorem dX0_invert_24 : decode cX0_invert 24 = .ok (.bipush 12, 2) := by decide +kernel
theorem dX0_invert_26 : decode cX0_invert 26 = .ok (.if_icmp .ge 35, 3) := by decide +kernel
theorem dX0_invert_29 : decode cX0_invert 29 = .ok (.aload_n 0, 1) := by decide +kernel
theorem dX0_invert_30 : decode cX0_invert 30 = .ok (.getfield 38, 3) := by decide +kernel
theorem dX0_invert_33 : decode cX0_invert 33 = .ok (.iload_n 3, 1) := by decide +kernel
theorem dX0_invert_34 : decode cX0_invert 34 = .ok (.aload_n 0, 1) := by decide +kernel
theorem dX0_invert_35 : decode cX0_invert 35 = .ok (.getfield 16, 3) := by decide +kernel
theorem dX0_invert_38 : decode cX0_invert 38 = .ok (.iload_n 3, 1) := by decide +kernel
theorem dX0_invert_39 : decode cX0_invert 39 = .ok (.iaload, 1) := by decide +kernel
theorem dX0_invert_40 : decode cX0_invert 40 = .ok (.iastore, 1) := by decide +kernel
theorem dX0_invert_41 : decode cX0_invert 41 = .ok (.aload_n 0, 1) := by decide +kernel
theorem dX0_invert_42 : decode cX0_invert 42 = .ok (.getfield 41, 3) := by decide +kernel
theorem dX0_invert_45 : decode cX0_invert 45 = .ok (.iload_n 3, 1) := by decide +kernel
theorem dX0_invert_46 : decode cX0_invert 46 = .ok (.iconst 0, 1) := by decide +kernel
theorem dX0_invert_47 : decode cX0_invert 47 = .ok (.iastore, 1) := by decide +kernel
theorem dX0_invert_48 : decode cX0_invert 48 = .ok (.aload_n 0, 1) := by decide +kernel
theorem dX0_invert_49 : decode cX0_invert 49 = .ok (.getfield 44, 3) := by decide +kernel
theorem dX0_invert_52 : decode cX0_invert 52 = .ok (.iload_n 3, 1) := by decide +kernel
theorem dX0_invert_53 : decode cX0_invert 53 = .ok (.iconst 0, 1) := by decide +kernel
theorem dX0_invert_54 : decode cX0_invert 54 = .ok (.iastore, 1) := by decide +kernel
theorem dX0_invert_55 : decode cX0_invert 55 = .ok (.iinc 3 1, 3) := by decide +kernel
theorem dX0_invert_58 : decode cX0_invert 58 = .ok (.goto (-35), 3) := by decide +kernel
theorem dX0_invert_61 : decode cX0_invert 61 = .ok (.aload_n 0, 1) := by decide +kernel
theorem dX0_invert_62 : decode cX0_invert 62 = .ok (.getfield 41, 3) := by decide +kernel
theorem dX0_invert_65 : decode cX0_invert 65 = .ok (.iconst 0, 1) := by decide +kernel
theorem dX0_invert_66 : decode cX0_invert 66 = .ok (.iconst 1, 1) := by decide +kernel
theorem dX0_invert_67 : decode cX0_invert 67 = .ok (.iastore, 1) := by decide +kernel
theorem dX0_invert_68 : decode cX0_invert 68 = .ok (.aload_n 0, 1) := by decide +kernel
theorem dX0_invert_69 : decode cX0_invert 69 = .ok (.getfield 35, 3) := by decide +kernel
theorem dX0_invert_72 : decode cX0_invert 72 = .ok (.invokestatic 100, 3) := by decide +kernel
theorem dX0_invert_75 : decode cX0_invert 75 = .ok (.ifCond .ne 121, 3) := by decide +kernel
theorem dX0_invert_78 : decode cX0_invert 78 = .ok (.aload_n 0, 1) := by decide +kernel
theorem dX0_invert_79 : decode cX0_invert 79 = .ok (.getfield 38, 3) := by decide +kernel
theorem dX0_invert_82 : decode cX0_invert 82 = .ok (.invokestatic 100, 3) := by decide +kernel
theorem dX0_invert_85 : decode cX0_invert 85 = .ok (.ifCond .ne 111, 3) := by decide +kernel
theorem dX0_invert_88 : decode cX0_invert 88 = .ok (.aload_n 0, 1) := by decide +kernel
theorem dX0_invert_89 : decode cX0_invert 89 = .ok (.aload_n 0, 1) := by decide +kernel
theorem dX0_invert_90 : decode cX0_invert 90 = .ok (.getfield 35, 3) := by decide +kernel
theorem dX0_invert_93 : decode cX0_invert 93 = .ok (.aload_n 0, 1) := by decide +kernel
theorem dX0_invert_94 : decode cX0_invert 94 = .ok (.getfield 41, 3) := by decide +kernel
theorem dX0_invert_97 : decode cX0_invert 97 = .ok (.invokevirtual 103, 3) := by decide +kernel
theorem dX0_invert_100 : decode cX0_invert 100 = .ok (.aload_n 0, 1) := by decide +kernel
theorem dX0_invert_101 : decode cX0_invert 101 = .ok (.aload_n 0, 1) := by decide +kernel
theorem dX0_invert_102 : decode cX0_invert 102 = .ok (.getfield 38, 3) := by decide +kernel
theorem dX0_invert_105 : decode cX0_invert 105 = .ok (.aload_n 0, 1) := by decide +kernel
theorem dX0_invert_106 : decode cX0_invert 106 = .ok (.getfield 44, 3) := by decide +kernel
theorem dX0_invert_109 : decode cX0_invert 109 = .ok (.invokevirtual 103, 3) := by decide +kernel
theorem dX0_invert_112 : decode cX0_invert 112 = .ok (.aload_n 0, 1) := by decide +kernel
theorem dX0_invert_113 : decode cX0_invert 113 = .ok (.getfield 35, 3) := by decide +kernel
theorem dX0_invert_116 : decode cX0_invert 116 = .ok (.aload_n 0, 1) := by decide +kernel
theorem dX0_invert_117 : decode cX0_invert 117 = .ok (.getfield 38, 3) := by decide +kernel
theorem dX0_invert_120 : decode cX0_invert 120 = .ok (.invokestatic 58, 3) := by decide +kernel
theorem dX0_invert_123 : decode cX0_invert 123 = .ok (.ifCond .eq 38, 3) := by decide +kernel
theorem dX0_invert_126 : decode cX0_invert 126 = .ok (.aload_n 0, 1) := by decide +kernel
theorem dX0_invert_127 : decode cX0_invert 127 = .ok (.getfield 38, 3) := by decide +kernel
theorem dX0_invert_130 : decode cX0_invert 130 = .ok (.aload_n 0, 1) := by decide +kernel
theorem dX0_invert_131 : decode cX0_invert 131 = .ok (.getfield 35, 3) := by decide +kernel
theorem dX0_invert_134 : decode cX0_invert 134 = .ok (.aload_n 0, 1) := by decide +kernel
theorem dX0_invert_135 : decode cX0_invert 135 = .ok (.getfield 38, 3) := by decide +kernel
theorem dX0_invert_138 : decode cX0_invert 138 = .ok (.invokestatic 62, 3) := by decide +kernel
theorem dX0_invert_141 : decode cX0_invert 141 = .ok (.pop, 1) := by decide +kernel
theorem dX0_invert_142 : decode cX0_invert 142 = .ok (.aload_n 0, 1) := by decide +kernel
theorem dX0_invert_143 : decode cX0_invert 143 = .ok (.aload_n 0, 1) := by decide +kernel
theorem dX0_invert_144 : decode cX0_invert 144 = .ok (.getfield 44, 3) := by decide +kernel
theorem dX0_invert_147 : decode cX0_invert 147 = .ok (.aload_n 0, 1) := by decide +kernel
theorem dX0_invert_148 : decode cX0_invert 148 = .ok (.getfield 41, 3) := by decide +kernel
theorem dX0_invert_151 : decode cX0_invert 151 = .ok (.aload_n 0, 1) := by decide +kernel
theorem dX0_invert_152 : decode cX0_invert 152 = .ok (.getfield 44, 3) := by decide +kernel
theorem dX0_invert_155 : decode cX0_invert 155 = .ok (.invokevirtual 76, 3) := by decide +kernel
theorem dX0_invert_158 : decode cX0_invert 158 = .ok (.goto (-90), 3) := by decide +kernel
theorem dX0_invert_161 : decode cX0_invert 161 = .ok (.aload_n 0, 1) := by decide +kernel
theorem dX0_invert_162 : decode cX0_invert 162 = .ok (.getfield 35, 3) := by decide +kernel
theorem dX0_invert_165 : decode cX0_invert 165 = .ok (.aload_n 0, 1) := by decide +kernel
theorem dX0_invert_166 : decode cX0_invert 166 = .ok (.getfield 38, 3) := by decide +kernel
theorem dX0_invert_169 : decode cX0_invert 169 = .ok (.aload_n 0, 1) := by decide +kernel
theorem dX0_invert_170 : decode cX0_invert 170 = .ok (.getfield 35, 3) := by decide +kernel
theorem dX0_invert_173 : decode cX0_invert 173 = .ok (.invokestatic 62, 3) := by decide +kernel
theorem dX0_invert_176 : decode cX0_invert 176 = .ok (.pop, 1) := by decide +kernel
theorem dX0_invert_177 : decode cX0_invert 177 = .ok (.aload_n 0, 1) := by decide +kernel
theorem dX0_invert_178 : decode cX0_invert 178 = .ok (.aload_n 0, 1) := by decide +kernel
theorem dX0_invert_179 : decode cX0_invert 179 = .ok (.getfield 41, 3) := by decide +kernel
theorem dX0_invert_182 : decode cX0_invert 182 = .ok (.aload_n 0, 1) := by decide +kernel
theorem dX0_invert_183 : decode cX0_invert 183 = .ok (.getfield 44, 3) := by decide +kernel
theorem dX0_invert_186 : decode cX0_invert 186 = .ok (.aload_n 0, 1) := by decide +kernel
theorem dX0_invert_187 : decode cX0_invert 187 = .ok (.getfield 41, 3) := by decide +kernel
theorem dX0_invert_190 : decode cX0_invert 190 = .ok (.invokevirtual 76, 3) := by decide +kernel
theorem dX0_invert_193 : decode cX0_invert 193 = .ok (.goto (-125), 3) := by decide +kernel
theorem dX0_invert_196 : decode cX0_invert 196 = .ok (.aload_n 0, 1) := by decide +kernel
theorem dX0_invert_197 : decode cX0_invert 197 = .ok (.iload_n 1, 1) := by decide +kernel
theorem dX0_invert_198 : decode cX0_invert 198 = .ok (.aload_n 0, 1) := by decide +kernel
theorem dX0_invert_199 : decode cX0_invert 199 = .ok (.getfield 35, 3) := by decide +kernel
theorem dX0_invert_202 : decode cX0_invert 202 = .ok (.invokestatic 100, 3) := by decide +kernel
theorem dX0_invert_205 : decode cX0_invert 205 = .ok (.ifCond .eq 10, 3) := by decide +kernel
theorem dX0_invert_208 : decode cX0_invert 208 = .ok (.aload_n 0, 1) := by decide +kernel
theorem dX0_invert_209 : decode cX0_invert 209 = .ok (.getfield 41, 3) := by decide +kernel
theorem dX0_invert_212 : decode cX0_invert 212 = .ok (.goto 7, 3) := by decide +kernel
theorem dX0_invert_215 : decode cX0_invert 215 = .ok (.aload_n 0, 1) := by decide +kernel
theorem dX0_invert_216 : decode cX0_invert 216 = .ok (.getfield 44, 3) := by decide +kernel
theorem dX0_invert_219 : decode cX0_invert 219 = .ok (.invokevirtual 69, 3) := by decide +kernel
theorem dX0_invert_222 : decode cX0_invert 222 = .ok (.iconst 1, 1) := by decide +kernel
theorem dX0_invert_223 : decode cX0_invert 223 = .ok (.ireturn, 1) := by decide +kernel
theorem dX0_isZero_0 : decode cX0_isZero 0 = .ok (.iconst 0, 1) := by decide +kernel
theorem dX0_isZero_1 : decode cX0_isZero 1 = .ok (.istore_n 1, 1) := by decide +kernel
theorem dX0_isZero_2 : decode cX0_isZero 2 = .ok (.iload_n 1, 1) := by decide +kernel
theorem dX0_isZero_3 : decode cX0_isZero 3 = .ok (.bipush 12, 2) := by decide +kernel
theorem dX0_isZero_5 : decode cX0_isZero 5 = .ok (.if_icmp .ge 17, 3) := by decide +kernel
theorem dX0_isZero_8 : decode cX0_isZero 8 = .ok (.aload_n 0, 1) := by decide +kernel
theorem dX0_isZero_9 : decode cX0_isZero 9 = .ok (.iload_n 1, 1) := by decide +kernel
theorem dX0_isZero_10 : decode cX0_isZero 10 = .ok (.iaload, 1) := by decide +kernel
theorem dX0_isZero_11 : decode cX0_isZero 11 = .ok (.ifCond .eq 5, 3) := by decide +kernel
theorem dX0_isZero_14 : decode cX0_isZero 14 = .ok (.iconst 0, 1) := by decide +kernel
theorem dX0_isZero_15 : decode cX0_isZero 15 = .ok (.ireturn, 1) := by decide +kernel
theorem dX0_isZero_16 : decode cX0_isZero 16 = .ok (.iinc 1 1, 3) := by decide +kernel
theorem dX0_isZero_19 : decode cX0_isZero 19 = .ok (.goto (-17), 3) := by decide +kernel
theorem dX0_isZero_22 : decode cX0_isZero 22 = .ok (.iconst 1, 1) := by decide +kernel
theorem dX0_isZero_23 : decode cX0_isZero 23 = .ok (.ireturn, 1) := by decide +kernel
theorem dX0_isOne_0 : decode cX0_isOne 0 = .ok (.iconst 1, 1) := by decide +kernel
theorem dX0_isOne_1 : decode cX0_isOne 1 = .ok (.istore_n 1, 1) := by decide +kernel
theorem dX0_isOne_2 : decode cX0_isOne 2 = .ok (.iload_n 1, 1) := by decide +kernel
theorem dX0_isOne_3 : decode cX0_isOne 3 = .ok (.bipush 12, 2) := by decide +kernel
theorem dX0_isOne_5 : decode cX0_isOne 5 = .ok (.if_icmp .ge 17, 3) := by decide +kernel
theorem dX0_isOne_8 : decode cX0_isOne 8 = .ok (.aload_n 0, 1) := by decide +kernel
theorem dX0_isOne_9 : decode cX0_isOne 9 = .ok (.iload_n 1, 1) := by decide +kernel
theorem dX0_isOne_10 : decode cX0_isOne 10 = .ok (.iaload, 1) := by decide +kernel
theorem dX0_isOne_11 : decode cX0_isOne 11 = .ok (.ifCond .eq 5, 3) := by decide +kernel
theorem dX0_isOne_14 : decode cX0_isOne 14 = .ok (.iconst 0, 1) := by decide +kernel
theorem dX0_isOne_15 : decode cX0_isOne 15 = .ok (.ireturn, 1) := by decide +kernel
theorem dX0_isOne_16 : decode cX0_isOne 16 = .ok (.iinc 1 1, 3) := by decide +kernel
theorem dX0_isOne_19 : decode cX0_isOne 19 = .ok (.goto (-17), 3) := by decide +kernel
theorem dX0_isOne_22 : decode cX0_isOne 22 = .ok (.aload_n 0, 1) := by decide +kernel
theorem dX0_isOne_23 : decode cX0_isOne 23 = .ok (.iconst 0, 1) := by decide +kernel
theorem dX0_isOne_24 : decode cX0_isOne 24 = .ok (.iaload, 1) := by decide +kernel
theorem dX0_isOne_25 : decode cX0_isOne 25 = .ok (.iconst 1, 1) := by decide +kernel
theorem dX0_isOne_26 : decode cX0_isOne 26 = .ok (.if_icmp .ne 7, 3) := by decide +kernel
theorem dX0_isOne_29 : decode cX0_isOne 29 = .ok (.iconst 1, 1) := by decide +kernel
theorem dX0_isOne_30 : decode cX0_isOne 30 = .ok (.goto 4, 3) := by decide +kernel
theorem dX0_isOne_33 : decode cX0_isOne 33 = .ok (.iconst 0, 1) := by decide +kernel
theorem dX0_isOne_34 : decode cX0_isOne 34 = .ok (.ireturn, 1) := by decide +kernel
theorem dX0_odd_0 : decode cX0_odd 0 = .ok (.aload_n 1, 1) := by decide +kernel
theorem dX0_odd_1 : decode cX0_odd 1 = .ok (.iconst 0, 1) := by decide +kernel
theorem dX0_odd_2 : decode cX0_odd 2 = .ok (.iaload, 1) := by decide +kernel
theorem dX0_odd_3 : decode cX0_odd 3 = .ok (.iconst 1, 1) := by decide +kernel
theorem dX0_odd_4 : decode cX0_odd 4 = .ok (.iand, 1) := by decide +kernel
theorem dX0_odd_5 : decode cX0_odd 5 = .ok (.ifCond .ne 15, 3) := by decide +kernel
theorem dX0_odd_8 : decode cX0_odd 8 = .ok (.aload_n 1, 1) := by decide +kernel
theorem dX0_odd_9 : decode cX0_odd 9 = .ok (.invokestatic 93, 3) := by decide +kernel
theorem dX0_odd_12 : decode cX0_odd 12 = .ok (.aload_n 0, 1) := by decide +kernel
theorem dX0_odd_13 : decode cX0_odd 13 = .ok (.aload_n 2, 1) := by decide +kernel
theorem dX0_odd_14 : decode cX0_odd 14 = .ok (.invokevirtual 89, 3) := by decide +kernel
theorem dX0_odd_17 : decode cX0_odd 17 = .ok (.goto (-17), 3) := by decide +kernel
theorem dX0_odd_20 : decode cX0_odd 20 = .ok (.return_, 1) := by decide +kernel
theorem dX0_shift_0 : decode cX0_shift 0 = .ok (.iconst 0, 1) := by decide +kernel
theorem dX0_shift_1 : decode cX0_shift 1 = .ok (.istore_n 1, 1) := by decide +kernel
theorem dX0_shift_2 : decode cX0_shift 2 = .ok (.iload_n 1, 1) := by decide +kernel
theorem dX0_shift_3 : decode cX0_shift 3 = .ok (.bipush 11, 2) := by decide +kernel
theorem dX0_shift_5 : decode cX0_shift 5 = .ok (.if_icmp .ge 26, 3) := by decide +kernel
theorem dX0_shift_8 : decode cX0_shift 8 = .ok (.aload_n 0, 1) := by decide +kernel
theorem dX0_shift_9 : decode cX0_shift 9 = .ok (.iload_n 1, 1) := by decide +kernel
theorem dX0_shift_10 : decode cX0_shift 10 = .ok (.aload_n 0, 1) := by decide +kernel
theorem dX0_shift_11 : decode cX0_shift 11 = .ok (.iload_n 1, 1) := by decide +kernel
theorem dX0_shift_12 : decode cX0_shift 12 = .ok (.iaload, 1) := by decide +kernel
theorem dX0_shift_13 : decode cX0_shift 13 = .ok (.iconst 1, 1) := by decide +kernel
theorem dX0_shift_14 : decode cX0_shift 14 = .ok (.iushr, 1) := by decide +kernel
theorem dX0_shift_15 : decode cX0_shift 15 = .ok (.aload_n 0, 1) := by decide +kernel
theorem dX0_shift_16 : decode cX0_shift 16 = .ok (.iload_n 1, 1) := by decide +kernel
theorem dX0_shift_17 : decode cX0_shift 17 = .ok (.iconst 1, 1) := by decide +kernel
theorem dX0_shift_18 : decode cX0_shift 18 = .ok (.iadd, 1) := by decide +kernel
theorem dX0_shift_19 : decode cX0_shift 19 = .ok (.iaload, 1) := by decide +kernel
theorem dX0_shift_20 : decode cX0_shift 20 = .ok (.bipush 31, 2) := by decide +kernel
theorem dX0_shift_22 : decode cX0_shift 22 = .ok (.ishl, 1) := by decide +kernel
theorem dX0_shift_23 : decode cX0_shift 23 = .ok (.ior, 1) := by decide +kernel
theorem dX0_shift_24 : decode cX0_shift 24 = .ok (.iastore, 1) := by decide +kernel
theorem dX0_shift_25 : decode cX0_shift 25 = .ok (.iinc 1 1, 3) := by decide +kernel
theorem dX0_shift_28 : decode cX0_shift 28 = .ok (.goto (-26), 3) := by decide +kernel
theorem dX0_shift_31 : decode cX0_shift 31 = .ok (.aload_n 0, 1) := by decide +kernel
theorem dX0_shift_32 : decode cX0_shift 32 = .ok (.bipush 11, 2) := by decide +kernel
theorem dX0_shift_34 : decode cX0_shift 34 = .ok (.dup2, 1) := by decide +kernel
theorem dX0_shift_35 : decode cX0_shift 35 = .ok (.iaload, 1) := by decide +kernel
theorem dX0_shift_36 : decode cX0_shift 36 = .ok (.iconst 1, 1) := by decide +kernel
theorem dX0_shift_37 : decode cX0_shift 37 = .ok (.iushr, 1) := by decide +kernel
theorem dX0_shift_38 : decode cX0_shift 38 = .ok (.iastore, 1) := by decide +kernel
theorem dX0_shift_39 : decode cX0_shift 39 = .ok (.return_, 1) := by decide +kernel
theorem dX0_zero_0 : decode cX0_zero 0 = .ok (.aload_n 0, 1) := by decide +kernel
theorem dX0_zero_1 : decode cX0_zero 1 = .ok (.iload_n 1, 1) := by decide +kernel
theorem dX0_zero_2 : decode cX0_zero 2 = .ok (.aload_n 0, 1) := by decide +kernel
theorem dX0_zero_3 : decode cX0_zero 3 = .ok (.getfield 26, 3) := by decide +kernel
theorem dX0_zero_6 : decode cX0_zero 6 = .ok (.invokevirtual 73, 3) := by decide +kernel
theorem dX0_zero_9 : decode cX0_zero 9 = .ok (.aload_n 0, 1) := by decide +kernel
theorem dX0_zero_10 : decode cX0_zero 10 = .ok (.getfield 26, 3) := by decide +kernel
theorem dX0_zero_13 : decode cX0_zero 13 = .ok (.invokestatic 96, 3) := by decide +kernel
theorem dX0_zero_16 : decode cX0_zero 16 = .ok (.ireturn, 1) := by decide +kernel
theorem dX0_carry_0 : decode cX0_carry 0 = .ok (.iconst 0, 1) := by decide +kernel
theorem dX0_carry_1 : decode cX0_carry 1 = .ok (.istore_n 3, 1) := by decide +kernel
theorem dX0_carry_2 : decode cX0_carry 2 = .ok (.iload_n 3, 1) := by decide +kernel
theorem dX0_carry_3 : decode cX0_carry 3 = .ok (.bipush 12, 2) := by decide +kernel
theorem dX0_carry_5 : decode cX0_carry 5 = .ok (.if_icmp .ge 16, 3) := by decide +kernel
theorem dX0_carry_8 : decode cX0_carry 8 = .ok (.aload_n 0, 1) := by decide +kernel
theorem dX0_carry_9 : decode cX0_carry 9 = .ok (.getfield 26, 3) := by decide +kernel
theorem dX0_carry_12 : decode cX0_carry 12 = .ok (.iload_n 3, 1) := by decide +kernel
theorem dX0_carry_13 : decode cX0_carry 13 = .ok (.iconst 0, 1) := by decide +kernel
theorem dX0_carry_14 : decode cX0_carry 14 = .ok (.iastore, 1) := by decide +kernel
theorem dX0_carry_15 : decode cX0_carry 15 = .ok (.iinc 3 1, 3) := by decide +kernel
theorem dX0_carry_18 : decode cX0_carry 18 = .ok (.goto (-16), 3) := by decide +kernel
theorem dX0_carry_21 : decode cX0_carry 21 = .ok (.aload_n 0, 1) := by decide +kernel
theorem dX0_carry_22 : decode cX0_carry 22 = .ok (.getfield 26, 3) := by decide +kernel
theorem dX0_carry_25 : decode cX0_carry 25 = .ok (.iconst 0, 1) := by decide +kernel
theorem dX0_carry_26 : decode cX0_carry 26 = .ok (.iload_n 2, 1) := by decide +kernel
theorem dX0_carry_27 : decode cX0_carry 27 = .ok (.iastore, 1) := by decide +kernel
theorem dX0_carry_28 : decode cX0_carry 28 = .ok (.aload_n 0, 1) := by decide +kernel
theorem dX0_carry_29 : decode cX0_carry 29 = .ok (.aload_n 0, 1) := by decide +kernel
theorem dX0_carry_30 : decode cX0_carry 30 = .ok (.getfield 26, 3) := by decide +kernel
theorem dX0_carry_33 : decode cX0_carry 33 = .ok (.aload_n 0, 1) := by decide +kernel
theorem dX0_carry_34 : decode cX0_carry 34 = .ok (.getfield 19, 3) := by decide +kernel
theorem dX0_carry_37 : decode cX0_carry 37 = .ok (.aload_n 0, 1) := by decide +kernel
theorem dX0_carry_38 : decode cX0_carry 38 = .ok (.getfield 29, 3) := by decide +kernel
theorem dX0_carry_41 : decode cX0_carry 41 = .ok (.invokevirtual 79, 3) := by decide +kernel
theorem dX0_carry_44 : decode cX0_carry 44 = .ok (.aload_n 0, 1) := by decide +kernel
theorem dX0_carry_45 : decode cX0_carry 45 = .ok (.iload_n 1, 1) := by decide +kernel
theorem dX0_carry_46 : decode cX0_carry 46 = .ok (.aload_n 0, 1) := by decide +kernel
theorem dX0_carry_47 : decode cX0_carry 47 = .ok (.getfield 26, 3) := by decide +kernel
theorem dX0_carry_50 : decode cX0_carry 50 = .ok (.invokevirtual 73, 3) := by decide +kernel
theorem dX0_carry_53 : decode cX0_carry 53 = .ok (.aload_n 0, 1) := by decide +kernel
theorem dX0_carry_54 : decode cX0_carry 54 = .ok (.aload_n 0, 1) := by decide +kernel
theorem dX0_carry_55 : decode cX0_carry 55 = .ok (.getfield 26, 3) := by decide +kernel
theorem dX0_carry_58 : decode cX0_carry 58 = .ok (.aload_n 0, 1) := by decide +kernel
theorem dX0_carry_59 : decode cX0_carry 59 = .ok (.getfield 29, 3) := by decide +kernel
theorem dX0_carry_62 : decode cX0_carry 62 = .ok (.aload_n 0, 1) := by decide +kernel
theorem dX0_carry_63 : decode cX0_carry 63 = .ok (.getfield 32, 3) := by decide +kernel
theorem dX0_carry_66 : decode cX0_carry 66 = .ok (.invokevirtual 47, 3) := by decide +kernel
theorem dX0_carry_69 : decode cX0_carry 69 = .ok (.aload_n 0, 1) := by decide +kernel
theorem dX0_carry_70 : decode cX0_carry 70 = .ok (.iload_n 1, 1) := by decide +kernel
theorem dX0_carry_71 : decode cX0_carry 71 = .ok (.aload_n 0, 1) := by decide +kernel
theorem dX0_carry_72 : decode cX0_carry 72 = .ok (.getfield 32, 3) := by decide +kernel
theorem dX0_carry_75 : decode cX0_carry 75 = .ok (.invokevirtual 69, 3) := by decide +kernel
theorem dX0_carry_78 : decode cX0_carry 78 = .ok (.return_, 1) := by decide +kernel
end
section
/-! Prime384Model -/
set_option maxRecDepth 100000
def RX1 : String := "Prime384Model"
def TX1 : u_T := fun k => match k with
  | 0 => ("Prime384Model", "file", "[I", true)
  | 1 => ("Prime384Model", "line", "[I", true)
  | 2 => ("Prime384Model", "prime", "[I", true)
  | 3 => ("Prime384Model", "one", "[I", true)
  | 4 => ("Prime384Model", "sum", "[I", true)
  | 5 => ("Prime384Model", "x", "[I", true)
  | 6 => ("Prime384Model", "y", "[I", true)
  | 7 => ("Prime384Model", "z", "[I", true)
  | 8 => ("Prime384Model", "u", "[I", true)
  | 9 => ("Prime384Model", "v", "[I", true)
  | 10 => ("Prime384Model", "e", "[I", true)
  | _ => ("Prime384Model", "g", "[I", true)
def tyX1 : Nat → FieldType := fun k => match k with
  | 0 => .array .int
  | 1 => .array .int
  | 2 => .array .int
  | 3 => .array .int
  | 4 => .array .int
  | 5 => .array .int
  | 6 => .array .int
  | 7 => .array .int
  | 8 => .array .int
  | 9 => .array .int
  | 10 => .array .int
  | _ => .array .int
abbrev wsX10 : List Cond := u_ws RX1 TX1 12
theorem nmX1 : ∀ a, a < 12 → ∀ b, b < 12 → a ≠ b → (TX1 a).2.1 ≠ (TX1 b).2.1 := by decide +kernel
theorem tyX1_ok : ∀ k, k < 12 → parseFieldDescriptor (TX1 k).2.2.1 = some (tyX1 k) := by decide +kernel
abbrev cX1_init : ByteArray := prog_3_method_1_code
def yX1_init : MethodName := ⟨RX1, "<init>", "()V"⟩
abbrev cX1_line : ByteArray := prog_3_method_10_code
def yX1_line : MethodName := ⟨RX1, "line", "(IIIII)V"⟩
abbrev cX1_load : ByteArray := prog_3_method_11_code
def yX1_load : MethodName := ⟨RX1, "load", "(I)Z"⟩
abbrev cX1_fold : ByteArray := prog_3_method_4_code
def yX1_fold : MethodName := ⟨RX1, "fold", "([I[I)V"⟩
abbrev cX1_give : ByteArray := prog_3_method_3_code
def yX1_give : MethodName := ⟨RX1, "give", "(I[I)V"⟩
abbrev cX1_word : ByteArray := prog_3_method_12_code
def yX1_word : MethodName := ⟨RX1, "word", "(II)I"⟩
abbrev cX1_add : ByteArray := prog_3_method_13_code
def yX1_add : MethodName := ⟨RX1, "add", "(III)V"⟩
abbrev cX1_take : ByteArray := prog_3_method_2_code
def yX1_take : MethodName := ⟨RX1, "take", "([II)V"⟩
abbrev cX1_plus : ByteArray := prog_3_method_5_code
def yX1_plus : MethodName := ⟨RX1, "plus", "([I[I[I)V"⟩
abbrev cX1_subtract : ByteArray := prog_3_method_14_code
def yX1_subtract : MethodName := ⟨RX1, "subtract", "(III)V"⟩
abbrev cX1_minus : ByteArray := prog_3_method_7_code
def yX1_minus : MethodName := ⟨RX1, "minus", "([I[I)V"⟩
abbrev cX1_isZero : ByteArray := prog_3_method_6_code
def yX1_isZero : MethodName := ⟨RX1, "isZero", "([I)Z"⟩
abbrev cX1_multiply : ByteArray := prog_3_method_15_code
def yX1_multiply : MethodName := ⟨RX1, "multiply", "(III)V"⟩
abbrev cX1_times : ByteArray := prog_3_method_8_code
def yX1_times : MethodName := ⟨RX1, "times", "([I[I)V"⟩
abbrev cX1_square : ByteArray := prog_3_method_16_code
def yX1_square : MethodName := ⟨RX1, "square", "(II)V"⟩
abbrev cX1_squares : ByteArray := prog_3_method_17_code
def yX1_squares : MethodName := ⟨RX1, "squares", "(III)V"⟩
abbrev cX1_copy : ByteArray := prog_3_method_9_code
def yX1_copy : MethodName := ⟨RX1, "copy", "([I[I)V"⟩
abbrev cX1_twice : ByteArray := prog_3_method_18_code
def yX1_twice : MethodName := ⟨RX1, "twice", "(II)V"⟩
abbrev cX1_halve : ByteArray := prog_3_method_19_code
def yX1_halve : MethodName := ⟨RX1, "halve", "(II)V"⟩
abbrev cX1_negate : ByteArray := prog_3_method_20_code
def yX1_negate : MethodName := ⟨RX1, "negate", "(II)V"⟩
abbrev cX1_invert : ByteArray := prog_3_method_21_code
def yX1_invert : MethodName := ⟨RX1, "invert", "(II)Z"⟩
abbrev cX1_nought : ByteArray := prog_3_method_22_code
def yX1_nought : MethodName := ⟨RX1, "nought", "([I)Z"⟩
abbrev cX1_half : ByteArray := prog_3_method_23_code
def yX1_half : MethodName := ⟨RX1, "half", "([I)V"⟩
abbrev cX1_more : ByteArray := prog_3_method_24_code
def yX1_more : MethodName := ⟨RX1, "more", "([I)V"⟩
abbrev cX1_less : ByteArray := prog_3_method_26_code
def yX1_less : MethodName := ⟨RX1, "less", "([I[I)Z"⟩
abbrev cX1_lessen : ByteArray := prog_3_method_25_code
def yX1_lessen : MethodName := ⟨RX1, "lessen", "([I[I)V"⟩
abbrev cX1_zero : ByteArray := prog_3_method_27_code
def yX1_zero : MethodName := ⟨RX1, "zero", "(I)Z"⟩
abbrev cX1_carry : ByteArray := prog_3_method_28_code
def yX1_carry : MethodName := ⟨RX1, "carry", "(II)V"⟩
theorem q19 : (Jvm.Cond.initialized "Prime384Model") ∈ lw_all := lw_g (lw_at lw_m1 2 rfl) rfl
theorem q178 : (Jvm.Cond.instantiable "Prime384Model" (12 : Nat)) ∈ lw_all := lw_g (lw_at lw_m1 161 rfl) rfl
theorem q180 : (Jvm.Cond.instanceMethod ({ cls := "Prime384Model", name := "<init>", desc := "()V" } : Jvm.MethodName)) ∈ lw_all := lw_g (lw_at lw_m1 163 rfl) rfl
theorem q181 : (Jvm.Cond.code ({ cls := "Prime384Model", name := "<init>", desc := "()V" } : Jvm.MethodName) prog_3_method_1_code (1 : Nat) (Option.none : Option Jvm.ClassFile.FieldType)) ∈ lw_all := lw_g (lw_at lw_m1 164 rfl) rfl
theorem q182 : (Jvm.Cond.methodLink "Prime384Model" (1 : Nat) ({ cls := "java/lang/Object", name := "<init>", desc := "()V" } : Jvm.MethodName)) ∈ lw_all := lw_g (lw_at lw_m1 165 rfl) rfl
theorem q183 : (Jvm.Cond.constant "Prime384Model" (16 : Nat) (65535 : Int32)) ∈ lw_all := lw_g (lw_at lw_m1 166 rfl) rfl
theorem q184 : (Jvm.Cond.constant "Prime384Model" (17 : Nat) (65534 : Int32)) ∈ lw_all := lw_g (lw_at lw_m1 167 rfl) rfl
theorem q185 : (Jvm.Cond.fieldLink "Prime384Model" (7 : Nat) "Prime384Model" "file" "[I") ∈ lw_all := lw_g (lw_at lw_m1 168 rfl) rfl
theorem q186 : (Jvm.Cond.fieldLink "Prime384Model" (13 : Nat) "Prime384Model" "line" "[I") ∈ lw_all := lw_g (lw_at lw_m1 169 rfl) rfl
theorem q187 : (Jvm.Cond.fieldLink "Prime384Model" (18 : Nat) "Prime384Model" "prime" "[I") ∈ lw_all := lw_g (lw_at lw_m1 170 rfl) rfl
theorem q188 : (Jvm.Cond.fieldLink "Prime384Model" (21 : Nat) "Prime384Model" "one" "[I") ∈ lw_all := lw_g (lw_at lw_m1 171 rfl) rfl
theorem q189 : (Jvm.Cond.fieldLink "Prime384Model" (24 : Nat) "Prime384Model" "sum" "[I") ∈ lw_all := lw_g (lw_at lw_m1 172 rfl) rfl
theorem q190 : (Jvm.Cond.fieldLink "Prime384Model" (27 : Nat) "Prime384Model" "x" "[I") ∈ lw_all := lw_g (lw_at lw_m1 173 rfl) rfl
theorem q191 : (Jvm.Cond.fieldLink "Prime384Model" (30 : Nat) "Prime384Model" "y" "[I") ∈ lw_all := lw_g (lw_at lw_m1 174 rfl) rfl
theorem q192 : (Jvm.Cond.fieldLink "Prime384Model" (33 : Nat) "Prime384Model" "z" "[I") ∈ lw_all := lw_g (lw_at lw_m1 175 rfl) rfl
theorem q193 : (Jvm.Cond.fieldLink "Prime384Model" (36 : Nat) "Prime384Model" "u" "[I") ∈ lw_all := lw_g (lw_at lw_m1 176 rfl) rfl
theorem q194 : (Jvm.Cond.fieldLink "Prime384Model" (39 : Nat) "Prime384Model" "v" "[I") ∈ lw_all := lw_g (lw_at lw_m1 177 rfl) rfl
theorem q195 : (Jvm.Cond.fieldLink "Prime384Model" (42 : Nat) "Prime384Model" "e" "[I") ∈ lw_all := lw_g (lw_at lw_m1 178 rfl) rfl
theorem q196 : (Jvm.Cond.fieldLink "Prime384Model" (45 : Nat) "Prime384Model" "g" "[I") ∈ lw_all := lw_g (lw_at lw_m1 179 rfl) rfl
theorem q197 : (Jvm.Cond.laysFinal "Prime384Model" "Prime384Model" "file" "[I") ∈ lw_all := lw_g (lw_at lw_m1 180 rfl) rfl
theorem q198 : (Jvm.Cond.soleField "Prime384Model" "file") ∈ lw_all := lw_g (lw_at lw_m1 181 rfl) rfl
theorem q199 : (Jvm.Cond.laysFinal "Prime384Model" "Prime384Model" "line" "[I") ∈ lw_all := lw_g (lw_at lw_m1 182 rfl) rfl
theorem q200 : (Jvm.Cond.soleField "Prime384Model" "line") ∈ lw_all := lw_g (lw_at lw_m1 183 rfl) rfl
theorem q201 : (Jvm.Cond.laysFinal "Prime384Model" "Prime384Model" "prime" "[I") ∈ lw_all := lw_g (lw_at lw_m1 184 rfl) rfl
theorem q202 : (Jvm.Cond.soleField "Prime384Model" "prime") ∈ lw_all := lw_g (lw_at lw_m1 185 rfl) rfl
theorem q203 : (Jvm.Cond.laysFinal "Prime384Model" "Prime384Model" "one" "[I") ∈ lw_all := lw_g (lw_at lw_m1 186 rfl) rfl
theorem q204 : (Jvm.Cond.soleField "Prime384Model" "one") ∈ lw_all := lw_g (lw_at lw_m1 187 rfl) rfl
theorem q205 : (Jvm.Cond.laysFinal "Prime384Model" "Prime384Model" "sum" "[I") ∈ lw_all := lw_g (lw_at lw_m1 188 rfl) rfl
theorem q206 : (Jvm.Cond.soleField "Prime384Model" "sum") ∈ lw_all := lw_g (lw_at lw_m1 189 rfl) rfl
theorem q207 : (Jvm.Cond.laysFinal "Prime384Model" "Prime384Model" "x" "[I") ∈ lw_all := lw_g (lw_at lw_m1 190 rfl) rfl
theorem q208 : (Jvm.Cond.soleField "Prime384Model" "x") ∈ lw_all := lw_g (lw_at lw_m1 191 rfl) rfl
theorem q209 : (Jvm.Cond.laysFinal "Prime384Model" "Prime384Model" "y" "[I") ∈ lw_all := lw_g (lw_at lw_m1 192 rfl) rfl
theorem q210 : (Jvm.Cond.soleField "Prime384Model" "y") ∈ lw_all := lw_g (lw_at lw_m1 193 rfl) rfl
theorem q211 : (Jvm.Cond.laysFinal "Prime384Model" "Prime384Model" "z" "[I") ∈ lw_all := lw_g (lw_at lw_m1 194 rfl) rfl
theorem q212 : (Jvm.Cond.soleField "Prime384Model" "z") ∈ lw_all := lw_g (lw_at lw_m1 195 rfl) rfl
theorem q213 : (Jvm.Cond.laysFinal "Prime384Model" "Prime384Model" "u" "[I") ∈ lw_all := lw_g (lw_at lw_m1 196 rfl) rfl
theorem q214 : (Jvm.Cond.soleField "Prime384Model" "u") ∈ lw_all := lw_g (lw_at lw_m1 197 rfl) rfl
theorem q215 : (Jvm.Cond.laysFinal "Prime384Model" "Prime384Model" "v" "[I") ∈ lw_all := lw_g (lw_at lw_m1 198 rfl) rfl
theorem q216 : (Jvm.Cond.soleField "Prime384Model" "v") ∈ lw_all := lw_g (lw_at lw_m1 199 rfl) rfl
theorem q217 : (Jvm.Cond.laysFinal "Prime384Model" "Prime384Model" "e" "[I") ∈ lw_all := lw_g (lw_at lw_m1 200 rfl) rfl
theorem q218 : (Jvm.Cond.soleField "Prime384Model" "e") ∈ lw_all := lw_g (lw_at lw_m1 201 rfl) rfl
theorem q219 : (Jvm.Cond.laysFinal "Prime384Model" "Prime384Model" "g" "[I") ∈ lw_all := lw_g (lw_at lw_m1 202 rfl) rfl
theorem q220 : (Jvm.Cond.soleField "Prime384Model" "g") ∈ lw_all := lw_g (lw_at lw_m1 203 rfl) rfl
theorem q221 : (Jvm.Cond.superclass "Prime384Model" "java/lang/Object") ∈ lw_all := lw_g (lw_at lw_m1 204 rfl) rfl
theorem q223 : (Jvm.Cond.instanceMethod ({ cls := "Prime384Model", name := "line", desc := "(IIIII)V" } : Jvm.MethodName)) ∈ lw_all := lw_g (lw_at lw_m1 206 rfl) rfl
theorem q224 : (Jvm.Cond.selects "Prime384Model" ({ cls := "Prime384Model", name := "line", desc := "(IIIII)V" } : Jvm.MethodName) ({ cls := "Prime384Model", name := "line", desc := "(IIIII)V" } : Jvm.MethodName)) ∈ lw_all := lw_g (lw_at lw_m1 207 rfl) rfl
theorem q225 : (Jvm.Cond.code ({ cls := "Prime384Model", name := "line", desc := "(IIIII)V" } : Jvm.MethodName) prog_3_method_10_code (9 : Nat) (Option.none : Option Jvm.ClassFile.FieldType)) ∈ lw_all := lw_g (lw_at lw_m1 208 rfl) rfl
theorem q226 : (Jvm.Cond.constant "Prime384Model" (60 : Nat) (2147483647 : Int32)) ∈ lw_all := lw_g (lw_at lw_m1 209 rfl) rfl
theorem q228 : (Jvm.Cond.instanceMethod ({ cls := "Prime384Model", name := "load", desc := "(I)Z" } : Jvm.MethodName)) ∈ lw_all := lw_g (lw_at lw_m1 211 rfl) rfl
theorem q229 : (Jvm.Cond.selects "Prime384Model" ({ cls := "Prime384Model", name := "load", desc := "(I)Z" } : Jvm.MethodName) ({ cls := "Prime384Model", name := "load", desc := "(I)Z" } : Jvm.MethodName)) ∈ lw_all := lw_g (lw_at lw_m1 212 rfl) rfl
theorem q230 : (Jvm.Cond.code ({ cls := "Prime384Model", name := "load", desc := "(I)Z" } : Jvm.MethodName) prog_3_method_11_code (4 : Nat) (Option.some Jvm.ClassFile.FieldType.boolean)) ∈ lw_all := lw_g (lw_at lw_m1 213 rfl) rfl
theorem q231 : (Jvm.Cond.methodLink "Prime384Model" (48 : Nat) ({ cls := "Prime384Model", name := "fold", desc := "([I[I)V" } : Jvm.MethodName)) ∈ lw_all := lw_g (lw_at lw_m1 214 rfl) rfl
theorem q232 : (Jvm.Cond.privateMethod ({ cls := "Prime384Model", name := "fold", desc := "([I[I)V" } : Jvm.MethodName)) ∈ lw_tbl := lw_at lw_m1 215 rfl
theorem q233 : (Jvm.Cond.instanceMethod ({ cls := "Prime384Model", name := "fold", desc := "([I[I)V" } : Jvm.MethodName)) ∈ lw_all := lw_g (lw_at lw_m1 216 rfl) rfl
theorem q234 : (Jvm.Cond.code ({ cls := "Prime384Model", name := "fold", desc := "([I[I)V" } : Jvm.MethodName) prog_3_method_4_code (7 : Nat) (Option.none : Option Jvm.ClassFile.FieldType)) ∈ lw_all := lw_g (lw_at lw_m1 217 rfl) rfl
theorem q235 : (Jvm.Cond.methodLink "Prime384Model" (61 : Nat) ({ cls := "Prime384Model", name := "give", desc := "(I[I)V" } : Jvm.MethodName)) ∈ lw_all := lw_g (lw_at lw_m1 218 rfl) rfl
theorem q236 : (Jvm.Cond.privateMethod ({ cls := "Prime384Model", name := "give", desc := "(I[I)V" } : Jvm.MethodName)) ∈ lw_tbl := lw_at lw_m1 219 rfl
theorem q237 : (Jvm.Cond.instanceMethod ({ cls := "Prime384Model", name := "give", desc := "(I[I)V" } : Jvm.MethodName)) ∈ lw_all := lw_g (lw_at lw_m1 220 rfl) rfl
theorem q238 : (Jvm.Cond.code ({ cls := "Prime384Model", name := "give", desc := "(I[I)V" } : Jvm.MethodName) prog_3_method_3_code (4 : Nat) (Option.none : Option Jvm.ClassFile.FieldType)) ∈ lw_all := lw_g (lw_at lw_m1 221 rfl) rfl
theorem q240 : (Jvm.Cond.instanceMethod ({ cls := "Prime384Model", name := "word", desc := "(II)I" } : Jvm.MethodName)) ∈ lw_all := lw_g (lw_at lw_m1 223 rfl) rfl
theorem q241 : (Jvm.Cond.selects "Prime384Model" ({ cls := "Prime384Model", name := "word", desc := "(II)I" } : Jvm.MethodName) ({ cls := "Prime384Model", name := "word", desc := "(II)I" } : Jvm.MethodName)) ∈ lw_all := lw_g (lw_at lw_m1 224 rfl) rfl
theorem q242 : (Jvm.Cond.code ({ cls := "Prime384Model", name := "word", desc := "(II)I" } : Jvm.MethodName) prog_3_method_12_code (4 : Nat) (Option.some Jvm.ClassFile.FieldType.int)) ∈ lw_all := lw_g (lw_at lw_m1 225 rfl) rfl
theorem q244 : (Jvm.Cond.instanceMethod ({ cls := "Prime384Model", name := "add", desc := "(III)V" } : Jvm.MethodName)) ∈ lw_all := lw_g (lw_at lw_m1 227 rfl) rfl
theorem q245 : (Jvm.Cond.selects "Prime384Model" ({ cls := "Prime384Model", name := "add", desc := "(III)V" } : Jvm.MethodName) ({ cls := "Prime384Model", name := "add", desc := "(III)V" } : Jvm.MethodName)) ∈ lw_all := lw_g (lw_at lw_m1 228 rfl) rfl
theorem q246 : (Jvm.Cond.code ({ cls := "Prime384Model", name := "add", desc := "(III)V" } : Jvm.MethodName) prog_3_method_13_code (4 : Nat) (Option.none : Option Jvm.ClassFile.FieldType)) ∈ lw_all := lw_g (lw_at lw_m1 229 rfl) rfl
theorem q247 : (Jvm.Cond.methodLink "Prime384Model" (65 : Nat) ({ cls := "Prime384Model", name := "take", desc := "([II)V" } : Jvm.MethodName)) ∈ lw_all := lw_g (lw_at lw_m1 230 rfl) rfl
theorem q248 : (Jvm.Cond.privateMethod ({ cls := "Prime384Model", name := "take", desc := "([II)V" } : Jvm.MethodName)) ∈ lw_tbl := lw_at lw_m1 231 rfl
theorem q249 : (Jvm.Cond.instanceMethod ({ cls := "Prime384Model", name := "take", desc := "([II)V" } : Jvm.MethodName)) ∈ lw_all := lw_g (lw_at lw_m1 232 rfl) rfl
theorem q250 : (Jvm.Cond.code ({ cls := "Prime384Model", name := "take", desc := "([II)V" } : Jvm.MethodName) prog_3_method_2_code (4 : Nat) (Option.none : Option Jvm.ClassFile.FieldType)) ∈ lw_all := lw_g (lw_at lw_m1 233 rfl) rfl
theorem q251 : (Jvm.Cond.methodLink "Prime384Model" (56 : Nat) ({ cls := "Prime384Model", name := "plus", desc := "([I[I[I)V" } : Jvm.MethodName)) ∈ lw_all := lw_g (lw_at lw_m1 234 rfl) rfl
theorem q252 : (Jvm.Cond.privateMethod ({ cls := "Prime384Model", name := "plus", desc := "([I[I[I)V" } : Jvm.MethodName)) ∈ lw_tbl := lw_at lw_m1 235 rfl
theorem q253 : (Jvm.Cond.instanceMethod ({ cls := "Prime384Model", name := "plus", desc := "([I[I[I)V" } : Jvm.MethodName)) ∈ lw_all := lw_g (lw_at lw_m1 236 rfl) rfl
theorem q254 : (Jvm.Cond.code ({ cls := "Prime384Model", name := "plus", desc := "([I[I[I)V" } : Jvm.MethodName) prog_3_method_5_code (7 : Nat) (Option.none : Option Jvm.ClassFile.FieldType)) ∈ lw_all := lw_g (lw_at lw_m1 237 rfl) rfl
theorem q256 : (Jvm.Cond.instanceMethod ({ cls := "Prime384Model", name := "subtract", desc := "(III)V" } : Jvm.MethodName)) ∈ lw_all := lw_g (lw_at lw_m1 239 rfl) rfl
theorem q257 : (Jvm.Cond.selects "Prime384Model" ({ cls := "Prime384Model", name := "subtract", desc := "(III)V" } : Jvm.MethodName) ({ cls := "Prime384Model", name := "subtract", desc := "(III)V" } : Jvm.MethodName)) ∈ lw_all := lw_g (lw_at lw_m2 0 rfl) rfl
theorem q258 : (Jvm.Cond.code ({ cls := "Prime384Model", name := "subtract", desc := "(III)V" } : Jvm.MethodName) prog_3_method_14_code (4 : Nat) (Option.none : Option Jvm.ClassFile.FieldType)) ∈ lw_all := lw_g (lw_at lw_m2 1 rfl) rfl
theorem q259 : (Jvm.Cond.methodLink "Prime384Model" (69 : Nat) ({ cls := "Prime384Model", name := "minus", desc := "([I[I)V" } : Jvm.MethodName)) ∈ lw_all := lw_g (lw_at lw_m2 2 rfl) rfl
theorem q260 : (Jvm.Cond.privateMethod ({ cls := "Prime384Model", name := "minus", desc := "([I[I)V" } : Jvm.MethodName)) ∈ lw_tbl := lw_at lw_m2 3 rfl
theorem q261 : (Jvm.Cond.instanceMethod ({ cls := "Prime384Model", name := "minus", desc := "([I[I)V" } : Jvm.MethodName)) ∈ lw_all := lw_g (lw_at lw_m2 4 rfl) rfl
theorem q262 : (Jvm.Cond.code ({ cls := "Prime384Model", name := "minus", desc := "([I[I)V" } : Jvm.MethodName) prog_3_method_7_code (6 : Nat) (Option.none : Option Jvm.ClassFile.FieldType)) ∈ lw_all := lw_g (lw_at lw_m2 5 rfl) rfl
theorem q263 : (Jvm.Cond.methodLink "Prime384Model" (52 : Nat) ({ cls := "Prime384Model", name := "isZero", desc := "([I)Z" } : Jvm.MethodName)) ∈ lw_all := lw_g (lw_at lw_m2 6 rfl) rfl
theorem q264 : (Jvm.Cond.privateMethod ({ cls := "Prime384Model", name := "isZero", desc := "([I)Z" } : Jvm.MethodName)) ∈ lw_tbl := lw_at lw_m2 7 rfl
theorem q265 : (Jvm.Cond.instanceMethod ({ cls := "Prime384Model", name := "isZero", desc := "([I)Z" } : Jvm.MethodName)) ∈ lw_all := lw_g (lw_at lw_m2 8 rfl) rfl
theorem q266 : (Jvm.Cond.code ({ cls := "Prime384Model", name := "isZero", desc := "([I)Z" } : Jvm.MethodName) prog_3_method_6_code (4 : Nat) (Option.some Jvm.ClassFile.FieldType.boolean)) ∈ lw_all := lw_g (lw_at lw_m2 9 rfl) rfl
theorem q268 : (Jvm.Cond.instanceMethod ({ cls := "Prime384Model", name := "multiply", desc := "(III)V" } : Jvm.MethodName)) ∈ lw_all := lw_g (lw_at lw_m2 11 rfl) rfl
theorem q269 : (Jvm.Cond.selects "Prime384Model" ({ cls := "Prime384Model", name := "multiply", desc := "(III)V" } : Jvm.MethodName) ({ cls := "Prime384Model", name := "multiply", desc := "(III)V" } : Jvm.MethodName)) ∈ lw_all := lw_g (lw_at lw_m2 12 rfl) rfl
theorem q270 : (Jvm.Cond.code ({ cls := "Prime384Model", name := "multiply", desc := "(III)V" } : Jvm.MethodName) prog_3_method_15_code (4 : Nat) (Option.none : Option Jvm.ClassFile.FieldType)) ∈ lw_all := lw_g (lw_at lw_m2 13 rfl) rfl
theorem q271 : (Jvm.Cond.methodLink "Prime384Model" (72 : Nat) ({ cls := "Prime384Model", name := "times", desc := "([I[I)V" } : Jvm.MethodName)) ∈ lw_all := lw_g (lw_at lw_m2 14 rfl) rfl
theorem q272 : (Jvm.Cond.privateMethod ({ cls := "Prime384Model", name := "times", desc := "([I[I)V" } : Jvm.MethodName)) ∈ lw_tbl := lw_at lw_m2 15 rfl
theorem q273 : (Jvm.Cond.instanceMethod ({ cls := "Prime384Model", name := "times", desc := "([I[I)V" } : Jvm.MethodName)) ∈ lw_all := lw_g (lw_at lw_m2 16 rfl) rfl
theorem q274 : (Jvm.Cond.code ({ cls := "Prime384Model", name := "times", desc := "([I[I)V" } : Jvm.MethodName) prog_3_method_8_code (4 : Nat) (Option.none : Option Jvm.ClassFile.FieldType)) ∈ lw_all := lw_g (lw_at lw_m2 17 rfl) rfl
theorem q276 : (Jvm.Cond.instanceMethod ({ cls := "Prime384Model", name := "square", desc := "(II)V" } : Jvm.MethodName)) ∈ lw_all := lw_g (lw_at lw_m2 19 rfl) rfl
theorem q277 : (Jvm.Cond.selects "Prime384Model" ({ cls := "Prime384Model", name := "square", desc := "(II)V" } : Jvm.MethodName) ({ cls := "Prime384Model", name := "square", desc := "(II)V" } : Jvm.MethodName)) ∈ lw_all := lw_g (lw_at lw_m2 20 rfl) rfl
theorem q278 : (Jvm.Cond.code ({ cls := "Prime384Model", name := "square", desc := "(II)V" } : Jvm.MethodName) prog_3_method_16_code (3 : Nat) (Option.none : Option Jvm.ClassFile.FieldType)) ∈ lw_all := lw_g (lw_at lw_m2 21 rfl) rfl
theorem q280 : (Jvm.Cond.instanceMethod ({ cls := "Prime384Model", name := "squares", desc := "(III)V" } : Jvm.MethodName)) ∈ lw_all := lw_g (lw_at lw_m2 23 rfl) rfl
theorem q281 : (Jvm.Cond.selects "Prime384Model" ({ cls := "Prime384Model", name := "squares", desc := "(III)V" } : Jvm.MethodName) ({ cls := "Prime384Model", name := "squares", desc := "(III)V" } : Jvm.MethodName)) ∈ lw_all := lw_g (lw_at lw_m2 24 rfl) rfl
theorem q282 : (Jvm.Cond.code ({ cls := "Prime384Model", name := "squares", desc := "(III)V" } : Jvm.MethodName) prog_3_method_17_code (5 : Nat) (Option.none : Option Jvm.ClassFile.FieldType)) ∈ lw_all := lw_g (lw_at lw_m2 25 rfl) rfl
theorem q283 : (Jvm.Cond.methodLink "Prime384Model" (75 : Nat) ({ cls := "Prime384Model", name := "copy", desc := "([I[I)V" } : Jvm.MethodName)) ∈ lw_all := lw_g (lw_at lw_m2 26 rfl) rfl
theorem q284 : (Jvm.Cond.privateMethod ({ cls := "Prime384Model", name := "copy", desc := "([I[I)V" } : Jvm.MethodName)) ∈ lw_tbl := lw_at lw_m2 27 rfl
theorem q285 : (Jvm.Cond.instanceMethod ({ cls := "Prime384Model", name := "copy", desc := "([I[I)V" } : Jvm.MethodName)) ∈ lw_all := lw_g (lw_at lw_m2 28 rfl) rfl
theorem q286 : (Jvm.Cond.code ({ cls := "Prime384Model", name := "copy", desc := "([I[I)V" } : Jvm.MethodName) prog_3_method_9_code (4 : Nat) (Option.none : Option Jvm.ClassFile.FieldType)) ∈ lw_all := lw_g (lw_at lw_m2 29 rfl) rfl
theorem q288 : (Jvm.Cond.instanceMethod ({ cls := "Prime384Model", name := "twice", desc := "(II)V" } : Jvm.MethodName)) ∈ lw_all := lw_g (lw_at lw_m2 31 rfl) rfl
theorem q289 : (Jvm.Cond.selects "Prime384Model" ({ cls := "Prime384Model", name := "twice", desc := "(II)V" } : Jvm.MethodName) ({ cls := "Prime384Model", name := "twice", desc := "(II)V" } : Jvm.MethodName)) ∈ lw_all := lw_g (lw_at lw_m2 32 rfl) rfl
theorem q290 : (Jvm.Cond.code ({ cls := "Prime384Model", name := "twice", desc := "(II)V" } : Jvm.MethodName) prog_3_method_18_code (3 : Nat) (Option.none : Option Jvm.ClassFile.FieldType)) ∈ lw_all := lw_g (lw_at lw_m2 33 rfl) rfl
theorem q292 : (Jvm.Cond.instanceMethod ({ cls := "Prime384Model", name := "halve", desc := "(II)V" } : Jvm.MethodName)) ∈ lw_all := lw_g (lw_at lw_m2 35 rfl) rfl
theorem q293 : (Jvm.Cond.selects "Prime384Model" ({ cls := "Prime384Model", name := "halve", desc := "(II)V" } : Jvm.MethodName) ({ cls := "Prime384Model", name := "halve", desc := "(II)V" } : Jvm.MethodName)) ∈ lw_all := lw_g (lw_at lw_m2 36 rfl) rfl
theorem q294 : (Jvm.Cond.code ({ cls := "Prime384Model", name := "halve", desc := "(II)V" } : Jvm.MethodName) prog_3_method_19_code (7 : Nat) (Option.none : Option Jvm.ClassFile.FieldType)) ∈ lw_all := lw_g (lw_at lw_m2 37 rfl) rfl
theorem q296 : (Jvm.Cond.instanceMethod ({ cls := "Prime384Model", name := "negate", desc := "(II)V" } : Jvm.MethodName)) ∈ lw_all := lw_g (lw_at lw_m2 39 rfl) rfl
theorem q297 : (Jvm.Cond.selects "Prime384Model" ({ cls := "Prime384Model", name := "negate", desc := "(II)V" } : Jvm.MethodName) ({ cls := "Prime384Model", name := "negate", desc := "(II)V" } : Jvm.MethodName)) ∈ lw_all := lw_g (lw_at lw_m2 40 rfl) rfl
theorem q298 : (Jvm.Cond.code ({ cls := "Prime384Model", name := "negate", desc := "(II)V" } : Jvm.MethodName) prog_3_method_20_code (3 : Nat) (Option.none : Option Jvm.ClassFile.FieldType)) ∈ lw_all := lw_g (lw_at lw_m2 41 rfl) rfl
theorem q300 : (Jvm.Cond.instanceMethod ({ cls := "Prime384Model", name := "invert", desc := "(II)Z" } : Jvm.MethodName)) ∈ lw_all := lw_g (lw_at lw_m2 43 rfl) rfl
theorem q301 : (Jvm.Cond.selects "Prime384Model" ({ cls := "Prime384Model", name := "invert", desc := "(II)Z" } : Jvm.MethodName) ({ cls := "Prime384Model", name := "invert", desc := "(II)Z" } : Jvm.MethodName)) ∈ lw_all := lw_g (lw_at lw_m2 44 rfl) rfl
theorem q302 : (Jvm.Cond.code ({ cls := "Prime384Model", name := "invert", desc := "(II)Z" } : Jvm.MethodName) prog_3_method_21_code (4 : Nat) (Option.some Jvm.ClassFile.FieldType.boolean)) ∈ lw_all := lw_g (lw_at lw_m2 45 rfl) rfl
theorem q303 : (Jvm.Cond.methodLink "Prime384Model" (78 : Nat) ({ cls := "Prime384Model", name := "nought", desc := "([I)Z" } : Jvm.MethodName)) ∈ lw_all := lw_g (lw_at lw_m2 46 rfl) rfl
theorem q304 : (Jvm.Cond.static ({ cls := "Prime384Model", name := "nought", desc := "([I)Z" } : Jvm.MethodName)) ∈ lw_all := lw_g (lw_at lw_m2 47 rfl) rfl
theorem q305 : (Jvm.Cond.code ({ cls := "Prime384Model", name := "nought", desc := "([I)Z" } : Jvm.MethodName) prog_3_method_22_code (3 : Nat) (Option.some Jvm.ClassFile.FieldType.boolean)) ∈ lw_all := lw_g (lw_at lw_m2 48 rfl) rfl
theorem q306 : (Jvm.Cond.methodLink "Prime384Model" (81 : Nat) ({ cls := "Prime384Model", name := "half", desc := "([I)V" } : Jvm.MethodName)) ∈ lw_all := lw_g (lw_at lw_m2 49 rfl) rfl
theorem q307 : (Jvm.Cond.static ({ cls := "Prime384Model", name := "half", desc := "([I)V" } : Jvm.MethodName)) ∈ lw_all := lw_g (lw_at lw_m2 50 rfl) rfl
theorem q308 : (Jvm.Cond.code ({ cls := "Prime384Model", name := "half", desc := "([I)V" } : Jvm.MethodName) prog_3_method_23_code (2 : Nat) (Option.none : Option Jvm.ClassFile.FieldType)) ∈ lw_all := lw_g (lw_at lw_m2 51 rfl) rfl
theorem q309 : (Jvm.Cond.methodLink "Prime384Model" (85 : Nat) ({ cls := "Prime384Model", name := "more", desc := "([I)V" } : Jvm.MethodName)) ∈ lw_all := lw_g (lw_at lw_m2 52 rfl) rfl
theorem q310 : (Jvm.Cond.privateMethod ({ cls := "Prime384Model", name := "more", desc := "([I)V" } : Jvm.MethodName)) ∈ lw_tbl := lw_at lw_m2 53 rfl
theorem q311 : (Jvm.Cond.instanceMethod ({ cls := "Prime384Model", name := "more", desc := "([I)V" } : Jvm.MethodName)) ∈ lw_all := lw_g (lw_at lw_m2 54 rfl) rfl
theorem q312 : (Jvm.Cond.code ({ cls := "Prime384Model", name := "more", desc := "([I)V" } : Jvm.MethodName) prog_3_method_24_code (5 : Nat) (Option.none : Option Jvm.ClassFile.FieldType)) ∈ lw_all := lw_g (lw_at lw_m2 55 rfl) rfl
theorem q313 : (Jvm.Cond.methodLink "Prime384Model" (88 : Nat) ({ cls := "Prime384Model", name := "less", desc := "([I[I)Z" } : Jvm.MethodName)) ∈ lw_all := lw_g (lw_at lw_m2 56 rfl) rfl
theorem q314 : (Jvm.Cond.static ({ cls := "Prime384Model", name := "less", desc := "([I[I)Z" } : Jvm.MethodName)) ∈ lw_all := lw_g (lw_at lw_m2 57 rfl) rfl
theorem q315 : (Jvm.Cond.code ({ cls := "Prime384Model", name := "less", desc := "([I[I)Z" } : Jvm.MethodName) prog_3_method_26_code (3 : Nat) (Option.some Jvm.ClassFile.FieldType.boolean)) ∈ lw_all := lw_g (lw_at lw_m2 58 rfl) rfl
theorem q316 : (Jvm.Cond.methodLink "Prime384Model" (92 : Nat) ({ cls := "Prime384Model", name := "lessen", desc := "([I[I)V" } : Jvm.MethodName)) ∈ lw_all := lw_g (lw_at lw_m2 59 rfl) rfl
theorem q317 : (Jvm.Cond.static ({ cls := "Prime384Model", name := "lessen", desc := "([I[I)V" } : Jvm.MethodName)) ∈ lw_all := lw_g (lw_at lw_m2 60 rfl) rfl
theorem q318 : (Jvm.Cond.code ({ cls := "Prime384Model", name := "lessen", desc := "([I[I)V" } : Jvm.MethodName) prog_3_method_25_code (5 : Nat) (Option.none : Option Jvm.ClassFile.FieldType)) ∈ lw_all := lw_g (lw_at lw_m2 61 rfl) rfl
theorem q320 : (Jvm.Cond.instanceMethod ({ cls := "Prime384Model", name := "zero", desc := "(I)Z" } : Jvm.MethodName)) ∈ lw_all := lw_g (lw_at lw_m2 63 rfl) rfl
theorem q321 : (Jvm.Cond.selects "Prime384Model" ({ cls := "Prime384Model", name := "zero", desc := "(I)Z" } : Jvm.MethodName) ({ cls := "Prime384Model", name := "zero", desc := "(I)Z" } : Jvm.MethodName)) ∈ lw_all := lw_g (lw_at lw_m2 64 rfl) rfl
theorem q322 : (Jvm.Cond.code ({ cls := "Prime384Model", name := "zero", desc := "(I)Z" } : Jvm.MethodName) prog_3_method_27_code (2 : Nat) (Option.some Jvm.ClassFile.FieldType.boolean)) ∈ lw_all := lw_g (lw_at lw_m2 65 rfl) rfl
theorem q324 : (Jvm.Cond.instanceMethod ({ cls := "Prime384Model", name := "carry", desc := "(II)V" } : Jvm.MethodName)) ∈ lw_all := lw_g (lw_at lw_m2 67 rfl) rfl
theorem q325 : (Jvm.Cond.selects "Prime384Model" ({ cls := "Prime384Model", name := "carry", desc := "(II)V" } : Jvm.MethodName) ({ cls := "Prime384Model", name := "carry", desc := "(II)V" } : Jvm.MethodName)) ∈ lw_all := lw_g (lw_at lw_m2 68 rfl) rfl
theorem q326 : (Jvm.Cond.code ({ cls := "Prime384Model", name := "carry", desc := "(II)V" } : Jvm.MethodName) prog_3_method_28_code (4 : Nat) (Option.none : Option Jvm.ClassFile.FieldType)) ∈ lw_all := lw_g (lw_at lw_m2 69 rfl) rfl
theorem in_X1 : ∀ w ∈ wsX10, w ∈ lw_all := lw_in wsX10 [197, 199, 201, 203, 205, 207, 209, 211, 213, 215, 217, 219] (by decide +kernel) (by decide +kernel)
end
section
set_option maxRecDepth 100000
theorem dX1_init_0 : decode cX1_init 0 = .ok (.aload_n 0, 1) := by decide +kernel
theorem dX1_init_1 : decode cX1_init 1 = .ok (.invokespecial 1, 3) := by decide +kernel
theorem dX1_init_4 : decode cX1_init 4 = .ok (.aload_n 0, 1) := by decide +kernel
theorem dX1_init_5 : decode cX1_init 5 = .ok (.bipush 96, 2) := by decide +kernel
theorem dX1_init_7 : decode cX1_init 7 = .ok (.newarray .int, 2) := by decide +kernel
theorem dX1_init_9 : decode cX1_init 9 = .ok (.putfield 7, 3) := by decide +kernel
theorem dX1_init_12 : decode cX1_init 12 = .ok (.aload_n 0, 1) := by decide +kernel
theorem dX1_init_13 : decode cX1_init 13 = .ok (.bipush 24, 2) := by decide +kernel
theorem dX1_init_15 : decode cX1_init 15 = .ok (.newarray .int, 2) := by decide +kernel
theorem dX1_init_17 : decode cX1_init 17 = .ok (.putfield 13, 3) := by decide +kernel
theorem dX1_init_20 : decode cX1_init 20 = .ok (.aload_n 0, 1) := by decide +kernel
theorem dX1_init_21 : decode cX1_init 21 = .ok (.bipush 24, 2) := by decide +kernel
theorem dX1_init_23 : decode cX1_init 23 = .ok (.newarray .int, 2) := by decide +kernel
theorem dX1_init_25 : decode cX1_init 25 = .ok (.dup, 1) := by decide +kernel
theorem dX1_init_26 : decode cX1_init 26 = .ok (.iconst 0, 1) := by decide +kernel
theorem dX1_init_27 : decode cX1_init 27 = .ok (.ldc 16, 2) := by decide +kernel
theorem dX1_init_29 : decode cX1_init 29 = .ok (.iastore, 1) := by decide +kernel
theorem dX1_init_30 : decode cX1_init 30 = .ok (.dup, 1) := by decide +kernel
theorem dX1_init_31 : decode cX1_init 31 = .ok (.iconst 1, 1) := by decide +kernel
theorem dX1_init_32 : decode cX1_init 32 = .ok (.ldc 16, 2) := by decide +kernel
theorem dX1_init_34 : decode cX1_init 34 = .ok (.iastore, 1) := by decide +kernel
theorem dX1_init_35 : decode cX1_init 35 = .ok (.dup, 1) := by decide +kernel
theorem dX1_init_36 : decode cX1_init 36 = .ok (.iconst 2, 1) := by decide +kernel
theorem dX1_init_37 : decode cX1_init 37 = .ok (.iconst 0, 1) := by decide +kernel
theorem dX1_init_38 : decode cX1_init 38 = .ok (.iastore, 1) := by decide +kernel
theorem dX1_init_39 : decode cX1_init 39 = .ok (.dup, 1) := by decide +kernel
theorem dX1_init_40 : decode cX1_init 40 = .ok (.iconst 3, 1) := by decide +kernel
theorem dX1_init_41 : decode cX1_init 41 = .ok (.iconst 0, 1) := by decide +kernel
theorem dX1_init_42 : decode cX1_init 42 = .ok (.iastore, 1) := by decide +kernel
theorem dX1_init_43 : decode cX1_init 43 = .ok (.dup, 1) := by decide +kernel
theorem dX1_init_44 : decode cX1_init 44 = .ok (.iconst 4, 1) := by decide +kernel
theorem dX1_init_45 : decode cX1_init 45 = .ok (.iconst 0, 1) := by decide +kernel
theorem dX1_init_46 : decode cX1_init 46 = .ok (.iastore, 1) := by decide +kernel
theorem dX1_init_47 : decode cX1_init 47 = .ok (.dup, 1) := by decide +kernel
theorem dX1_init_48 : decode cX1_init 48 = .ok (.iconst 5, 1) := by decide +kernel
theorem dX1_init_49 : decode cX1_init 49 = .ok (.iconst 0, 1) := by decide +kernel
theorem dX1_init_50 : decode cX1_init 50 = .ok (.iastore, 1) := by decide +kernel
theorem dX1_init_51 : decode cX1_init 51 = .ok (.dup, 1) := by decide +kernel
theorem dX1_init_52 : decode cX1_init 52 = .ok (.bipush 6, 2) := by decide +kernel
theorem dX1_init_54 : decode cX1_init 54 = .ok (.ldc 16, 2) := by decide +kernel
theorem dX1_init_56 : decode cX1_init 56 = .ok (.iastore, 1) := by decide +kernel
theorem dX1_init_57 : decode cX1_init 57 = .ok (.dup, 1) := by decide +kernel
theorem dX1_init_58 : decode cX1_init 58 = .ok (.bipush 7, 2) := by decide +kernel
theorem dX1_init_60 : decode cX1_init 60 = .ok (.ldc 16, 2) := by decide +kernel
theorem dX1_init_62 : decode cX1_init 62 = .ok (.iastore, 1) := by decide +kernel
theorem dX1_init_63 : decode cX1_init 63 = .ok (.dup, 1) := by decide +kernel
theorem dX1_init_64 : decode cX1_init 64 = .ok (.bipush 8, 2) := by decide +kernel
theorem dX1_init_66 : decode cX1_init 66 = .ok (.ldc 17, 2) := by decide +kernel
theorem dX1_init_68 : decode cX1_init 68 = .ok (.iastore, 1) := by decide +kernel
theorem dX1_init_69 : decode cX1_init 69 = .ok (.dup, 1) := by decide +kernel
theorem dX1_init_70 : decode cX1_init 70 = .ok (.bipush 9, 2) := by decide +kernel
theorem dX1_init_72 : decode cX1_init 72 = .ok (.ldc 16, 2) := by decide +kernel
theorem dX1_init_74 : decode cX1_init 74 = .ok (.iastore, 1) := by decide +kernel
theorem dX1_init_75 : decode cX1_init 75 = .ok (.dup, 1) := by decide +kernel
theorem dX1_init_76 : decode cX1_init 76 = .ok (.bipush 10, 2) := by decide +kernel
theorem dX1_init_78 : decode cX1_init 78 = .ok (.ldc 16, 2) := by decide +kernel
theorem dX1_init_80 : decode cX1_init 80 = .ok (.iastore, 1) := by decide +kernel
theorem dX1_init_81 : decode cX1_init 81 = .ok (.dup, 1) := by decide +kernel
theorem dX1_init_82 : decode cX1_init 82 = .ok (.bipush 11, 2) := by decide +kernel
theorem dX1_init_84 : decode cX1_init 84 = .ok (.ldc 16, 2) := by decide +kernel
theorem dX1_init_86 : decode cX1_init 86 = .ok (.iastore, 1) := by decide +kernel
theorem dX1_init_87 : decode cX1_init 87 = .ok (.dup, 1) := by decide +kernel
theorem dX1_init_88 : decode cX1_init 88 = .ok (.bipush 12, 2) := by decide +kernel
theorem dX1_init_90 : decode cX1_init 90 = .ok (.ldc 16, 2) := by decide +kernel
theorem dX1_init_92 : decode cX1_init 92 = .ok (.iastore, 1) := by decide +kernel
theorem dX1_init_93 : decode cX1_init 93 = .ok (.dup, 1) := by decide +kernel
theorem dX1_init_94 : decode cX1_init 94 = .ok (.bipush 13, 2) := by decide +kernel
theorem dX1_init_96 : decode cX1_init 96 = .ok (.ldc 16, 2) := by decide +kernel
theorem dX1_init_98 : decode cX1_init 98 = .ok (.iastore, 1) := by decide +kernel
theorem dX1_init_99 : decode cX1_init 99 = .ok (.dup, 1) := by decide +kernel
theorem dX1_init_100 : decode cX1_init 100 = .ok (.bipush 14, 2) := by decide +kernel
theorem dX1_init_102 : decode cX1_init 102 = .ok (.ldc 16, 2) := by decide +kernel
theorem dX1_init_104 : decode cX1_init 104 = .ok (.iastore, 1) := by decide +kernel
theorem dX1_init_105 : decode cX1_init 105 = .ok (.dup, 1) := by decide +kernel
theorem dX1_init_106 : decode cX1_init 106 = .ok (.bipush 15, 2) := by decide +kernel
theorem dX1_init_108 : decode cX1_init 108 = .ok (.ldc 16, 2) := by decide +kernel
theorem dX1_init_110 : decode cX1_init 110 = .ok (.iastore, 1) := by decide +kernel
theorem dX1_init_111 : decode cX1_init 111 = .ok (.dup, 1) := by decide +kernel
theorem dX1_init_112 : decode cX1_init 112 = .ok (.bipush 16, 2) := by decide +kernel
theorem dX1_init_114 : decode cX1_init 114 = .ok (.ldc 16, 2) := by decide +kernel
theorem dX1_init_116 : decode cX1_init 116 = .ok (.iastore, 1) := by decide +kernel
theorem dX1_init_117 : decode cX1_init 117 = .ok (.dup, 1) := by decide +kernel
theorem dX1_init_118 : decode cX1_init 118 = .ok (.bipush 17, 2) := by decide +kernel
theorem dX1_init_120 : decode cX1_init 120 = .ok (.ldc 16, 2) := by decide +kernel
theorem dX1_init_122 : decode cX1_init 122 = .ok (.iastore, 1) := by decide +kernel
theorem dX1_init_123 : decode cX1_init 123 = .ok (.dup, 1) := by decide +kernel
theorem dX1_init_124 : decode cX1_init 124 = .ok (.bipush 18, 2) := by decide +kernel
theorem dX1_init_126 : decode cX1_init 126 = .ok (.ldc 16, 2) := by decide +kernel
theorem dX1_init_128 : decode cX1_init 128 = .ok (.iastore, 1) := by decide +kernel
theorem dX1_init_129 : decode cX1_init 129 = .ok (.dup, 1) := by decide +kernel
theorem dX1_init_130 : decode cX1_init 130 = .ok (.bipush 19, 2) := by decide +kernel
theorem dX1_init_132 : decode cX1_init 132 = .ok (.ldc 16, 2) := by decide +kernel
theorem dX1_init_134 : decode cX1_init 134 = .ok (.iastore, 1) := by decide +kernel
theorem dX1_init_135 : decode cX1_init 135 = .ok (.dup, 1) := by decide +kernel
theorem dX1_init_136 : decode cX1_init 136 = .ok (.bipush 20, 2) := by decide +kernel
theorem dX1_init_138 : decode cX1_init 138 = .ok (.ldc 16, 2) := by decide +kernel
theorem dX1_init_140 : decode cX1_init 140 = .ok (.iastore, 1) := by decide +kernel
theorem dX1_init_141 : decode cX1_init 141 = .ok (.dup, 1) := by decide +kernel
theorem dX1_init_142 : decode cX1_init 142 = .ok (.bipush 21, 2) := by decide +kernel
theorem dX1_init_144 : decode cX1_init 144 = .ok (.ldc 16, 2) := by decide +kernel
theorem dX1_init_146 : decode cX1_init 146 = .ok (.iastore, 1) := by decide +kernel
theorem dX1_init_147 : decode cX1_init 147 = .ok (.dup, 1) := by decide +kernel
theorem dX1_init_148 : decode cX1_init 148 = .ok (.bipush 22, 2) := by decide +kernel
theorem dX1_init_150 : decode cX1_init 150 = .ok (.ldc 16, 2) := by decide +kernel
theorem dX1_init_152 : decode cX1_init 152 = .ok (.iastore, 1) := by decide +kernel
theorem dX1_init_153 : decode cX1_init 153 = .ok (.dup, 1) := by decide +kernel
theorem dX1_init_154 : decode cX1_init 154 = .ok (.bipush 23, 2) := by decide +kernel
theorem dX1_init_156 : decode cX1_init 156 = .ok (.ldc 16, 2) := by decide +kernel
theorem dX1_init_158 : decode cX1_init 158 = .ok (.iastore, 1) := by decide +kernel
theorem dX1_init_159 : decode cX1_init 159 = .ok (.putfield 18, 3) := by decide +kernel
theorem dX1_init_162 : decode cX1_init 162 = .ok (.aload_n 0, 1) := by decide +kernel
theorem dX1_init_163 : decode cX1_init 163 = .ok (.bipush 24, 2) := by decide +kernel
theorem dX1_init_165 : decode cX1_init 165 = .ok (.newarray .int, 2) := by decide +kernel
theorem dX1_init_167 : decode cX1_init 167 = .ok (.putfield 21, 3) := by decide +kernel
theorem dX1_init_170 : decode cX1_init 170 = .ok (.aload_n 0, 1) := by decide +kernel
theorem dX1_init_171 : decode cX1_init 171 = .ok (.bipush 25, 2) := by decide +kernel
theorem dX1_init_173 : decode cX1_init 173 = .ok (.newarray .int, 2) := by decide +kernel
theorem dX1_init_175 : decode cX1_init 175 = .ok (.putfield 24, 3) := by decide +kernel
theorem dX1_init_178 : decode cX1_init 178 = .ok (.aload_n 0, 1) := by decide +kernel
theorem dX1_init_179 : decode cX1_init 179 = .ok (.bipush 24, 2) := by decide +kernel
theorem dX1_init_181 : decode cX1_init 181 = .ok (.newarray .int, 2) := by decide +kernel
theorem dX1_init_183 : decode cX1_init 183 = .ok (.putfield 27, 3) := by decide +kernel
theorem dX1_init_186 : decode cX1_init 186 = .ok (.aload_n 0, 1) := by decide +kernel
theorem dX1_init_187 : decode cX1_init 187 = .ok (.bipush 24, 2) := by decide +kernel
theorem dX1_init_189 : decode cX1_init 189 = .ok (.newarray .int, 2) := by decide +kernel
theorem dX1_init_191 : decode cX1_init 191 = .ok (.putfield 30, 3) := by decide +kernel
theorem dX1_init_194 : decode cX1_init 194 = .ok (.aload_n 0, 1) := by decide +kernel
theorem dX1_init_195 : decode cX1_init 195 = .ok (.bipush 24, 2) := by decide +kernel
theorem dX1_init_197 : decode cX1_init 197 = .ok (.newarray .int, 2) := by decide +kernel
theorem dX1_init_199 : decode cX1_init 199 = .ok (.putfield 33, 3) := by decide +kernel
theorem dX1_init_202 : decode cX1_init 202 = .ok (.aload_n 0, 1) := by decide +kernel
theorem dX1_init_203 : decode cX1_init 203 = .ok (.bipush 25, 2) := by decide +kernel
theorem dX1_init_205 : decode cX1_init 205 = .ok (.newarray .int, 2) := by decide +kernel
theorem dX1_init_207 : decode cX1_init 207 = .ok (.putfield 36, 3) := by decide +kernel
theorem dX1_init_210 : decode cX1_init 210 = .ok (.aload_n 0, 1) := by decide +kernel
theorem dX1_init_211 : decode cX1_init 211 = .ok (.bipush 25, 2) := by decide +kernel
theorem dX1_init_213 : decode cX1_init 213 = .ok (.newarray .int, 2) := by decide +kernel
theorem dX1_init_215 : decode cX1_init 215 = .ok (.putfield 39, 3) := by decide +kernel
theorem dX1_init_218 : decode cX1_init 218 = .ok (.aload_n 0, 1) := by decide +kernel
theorem dX1_init_219 : decode cX1_init 219 = .ok (.bipush 25, 2) := by decide +kernel
theorem dX1_init_221 : decode cX1_init 221 = .ok (.newarray .int, 2) := by decide +kernel
theorem dX1_init_223 : decode cX1_init 223 = .ok (.putfield 42, 3) := by decide +kernel
theorem dX1_init_226 : decode cX1_init 226 = .ok (.aload_n 0, 1) := by decide +kernel
theorem dX1_init_227 : decode cX1_init 227 = .ok (.bipush 25, 2) := by decide +kernel
theorem dX1_init_229 : decode cX1_init 229 = .ok (.newarray .int, 2) := by decide +kernel
theorem dX1_init_231 : decode cX1_init 231 = .ok (.putfield 45, 3) := by decide +kernel
theorem dX1_init_234 : decode cX1_init 234 = .ok (.return_, 1) := by decide +kernel
theorem dX1_line_0 : decode cX1_line 0 = .ok (.iload_n 1, 1) := by decide +kernel
theorem dX1_line_1 : decode cX1_line 1 = .ok (.ldc 60, 2) := by decide +kernel
theorem dX1_line_3 : decode cX1_line 3 = .ok (.iand, 1) := by decide +kernel
theorem dX1_line_4 : decode cX1_line 4 = .ok (.iconst 3, 1) := by decide +kernel
theorem dX1_line_5 : decode cX1_line 5 = .ok (.irem, 1) := by decide +kernel
theorem dX1_line_6 : decode cX1_line 6 = .ok (.bipush 8, 2) := by decide +kernel
theorem dX1_line_8 : decode cX1_line 8 = .ok (.imul, 1) := by decide +kernel
theorem dX1_line_9 : decode cX1_line 9 = .ok (.istore 6, 2) := by decide +kernel
theorem dX1_line_11 : decode cX1_line 11 = .ok (.iconst 0, 1) := by decide +kernel
theorem dX1_line_12 : decode cX1_line 12 = .ok (.istore 7, 2) := by decide +kernel
theorem dX1_line_14 : decode cX1_line 14 = .ok (.iload 7, 2) := by decide +kernel
theorem dX1_line_16 : decode cX1_line 16 = .ok (.iconst 4, 1) := by decide +kernel
theorem dX1_line_17 : decode cX1_line 17 = .ok (.if_icmp .ge 79, 3) := by decide +kernel
theorem dX1_line_20 : decode cX1_line 20 = .ok (.iload 7, 2) := by decide +kernel
theorem dX1_line_22 : decode cX1_line 22 = .ok (.ifCond .ne 7, 3) := by decide +kernel
theorem dX1_line_25 : decode cX1_line 25 = .ok (.iload_n 2, 1) := by decide +kernel
theorem dX1_line_26 : decode cX1_line 26 = .ok (.goto 26, 3) := by decide +kernel
theorem dX1_line_29 : decode cX1_line 29 = .ok (.iload 7, 2) := by decide +kernel
theorem dX1_line_31 : decode cX1_line 31 = .ok (.iconst 1, 1) := by decide +kernel
theorem dX1_line_32 : decode cX1_line 32 = .ok (.if_icmp .ne 7, 3) := by decide +kernel
theorem dX1_line_35 : decode cX1_line 35 = .ok (.iload_n 3, 1) := by decide +kernel
theorem dX1_line_36 : decode cX1_line 36 = .ok (.goto 16, 3) := by decide +kernel
theorem dX1_line_39 : decode cX1_line 39 = .ok (.iload 7, 2) := by decide +kernel
theorem dX1_line_41 : decode cX1_line 41 = .ok (.iconst 2, 1) := by decide +kernel
theorem dX1_line_42 : decode cX1_line 42 = .ok (.if_icmp .ne 8, 3) := by decide +kernel
theorem dX1_line_45 : decode cX1_line 45 = .ok (.iload 4, 2) := by decide +kernel
theorem dX1_line_47 : decode cX1_line 47 = .ok (.goto 5, 3) := by decide +kernel
theorem dX1_line_50 : decode cX1_line 50 = .ok (.iload 5, 2) := by decide +kernel
theorem dX1_line_52 : decode cX1_line 52 = .ok (.istore 8, 2) := by decide +kernel
theorem dX1_line_54 : decode cX1_line 54 = .ok (.aload_n 0, 1) := by decide +kernel
theorem dX1_line_55 : decode cX1_line 55 = .ok (.getfield 13, 3) := by decide +kernel
theorem dX1_line_58 : decode cX1_line 58 = .ok (.iload 6, 2) := by decide +kernel
theorem dX1_line_60 : decode cX1_line 60 = .ok (.iconst 2, 1) := by decide +kernel
theorem dX1_line_61 : decode cX1_line 61 = .ok (.iload 7, 2) := by decide +kernel
theorem dX1_line_63 : decode cX1_line 63 = .ok (.imul, 1) := by decide +kernel
theorem dX1_line_64 : decode cX1_line 64 = .ok (.iadd, 1) := by decide +kernel
theorem dX1_line_65 : decode cX1_line 65 = .ok (.iload 8, 2) := by decide +kernel
theorem dX1_line_67 : decode cX1_line 67 = .ok (.ldc 16, 2) := by decide +kernel
theorem dX1_line_69 : decode cX1_line 69 = .ok (.iand, 1) := by decide +kernel
theorem dX1_line_70 : decode cX1_line 70 = .ok (.iastore, 1) := by decide +kernel
theorem dX1_line_71 : decode cX1_line 71 = .ok (.aload_n 0, 1) := by decide +kernel
theorem dX1_line_72 : decode cX1_line 72 = .ok (.getfield 13, 3) := by decide +kernel
theorem dX1_line_75 : decode cX1_line 75 = .ok (.iload 6, 2) := by decide +kernel
theorem dX1_line_77 : decode cX1_line 77 = .ok (.iconst 2, 1) := by decide +kernel
theorem dX1_line_78 : decode cX1_line 78 = .ok (.iload 7, 2) := by decide +kernel
theorem dX1_line_80 : decode cX1_line 80 = .ok (.imul, 1) := by decide +kernel
theorem dX1_line_81 : decode cX1_line 81 = .ok (.iadd, 1) := by decide +kernel
theorem dX1_line_82 : decode cX1_line 82 = .ok (.iconst 1, 1) := by decide +kernel
theorem dX1_line_83 : decode cX1_line 83 = .ok (.iadd, 1) := by decide +kernel
theorem dX1_line_84 : decode cX1_line 84 = .ok (.iload 8, 2) := by decide +kernel
theorem dX1_line_86 : decode cX1_line 86 = .ok (.bipush 16, 2) := by decide +kernel
theorem dX1_line_88 : decode cX1_line 88 = .ok (.iushr, 1) := by decide +kernel
theorem dX1_line_89 : decode cX1_line 89 = .ok (.iastore, 1) := by decide +kernel
theorem dX1_line_90 : decode cX1_line 90 = .ok (.iinc 7 1, 3) := by decide +kernel
theorem dX1_line_93 : decode cX1_line 93 = .ok (.goto (-79), 3) := by decide +kernel
theorem dX1_line_96 : decode cX1_line 96 = .ok (.return_, 1) := by decide +kernel
theorem dX1_load_0 : decode cX1_load 0 = .ok (.iconst 0, 1) := by decide +kernel
theorem dX1_load_1 : decode cX1_load 1 = .ok (.istore_n 2, 1) := by decide +kernel
theorem dX1_load_2 : decode cX1_load 2 = .ok (.iload_n 2, 1) := by decide +kernel
theorem dX1_load_3 : decode cX1_load 3 = .ok (.bipush 24, 2) := by decide +kernel
theorem dX1_load_5 : decode cX1_load 5 = .ok (.if_icmp .ge 21, 3) := by decide +kernel
theorem dX1_load_8 : decode cX1_load 8 = .ok (.aload_n 0, 1) := by decide +kernel
theorem dX1_load_9 : decode cX1_load 9 = .ok (.getfield 24, 3) := by decide +kernel
theorem dX1_load_12 : decode cX1_load 12 = .ok (.iload_n 2, 1) := by decide +kernel
theorem dX1_load_13 : decode cX1_load 13 = .ok (.aload_n 0, 1) := by decide +kernel
theorem dX1_load_14 : decode cX1_load 14 = .ok (.getfield 13, 3) := by decide +kernel
theorem dX1_load_17 : decode cX1_load 17 = .ok (.iload_n 2, 1) := by decide +kernel
theorem dX1_load_18 : decode cX1_load 18 = .ok (.iaload, 1) := by decide +kernel
theorem dX1_load_19 : decode cX1_load 19 = .ok (.iastore, 1) := by decide +kernel
theorem dX1_load_20 : decode cX1_load 20 = .ok (.iinc 2 1, 3) := by decide +kernel
theorem dX1_load_23 : decode cX1_load 23 = .ok (.goto (-21), 3) := by decide +kernel
theorem dX1_load_26 : decode cX1_load 26 = .ok (.aload_n 0, 1) := by decide +kernel
theorem dX1_load_27 : decode cX1_load 27 = .ok (.getfield 24, 3) := by decide +kernel
theorem dX1_load_30 : decode cX1_load 30 = .ok (.bipush 24, 2) := by decide +kernel
theorem dX1_load_32 : decode cX1_load 32 = .ok (.iconst 0, 1) := by decide +kernel
theorem dX1_load_33 : decode cX1_load 33 = .ok (.iastore, 1) := by decide +kernel
theorem dX1_load_34 : decode cX1_load 34 = .ok (.bipush 23, 2) := by decide +kernel
theorem dX1_load_36 : decode cX1_load 36 = .ok (.istore_n 2, 1) := by decide +kernel
theorem dX1_load_37 : decode cX1_load 37 = .ok (.iload_n 2, 1) := by decide +kernel
theorem dX1_load_38 : decode cX1_load 38 = .ok (.ifCond .le 25, 3) := by decide +kernel
theorem dX1_load_41 : decode cX1_load 41 = .ok (.aload_n 0, 1) := by decide +kernel
theorem dX1_load_42 : decode cX1_load 42 = .ok (.getfield 24, 3) := by decide +kernel
theorem dX1_load_45 : decode cX1_load 45 = .ok (.iload_n 2, 1) := by decide +kernel
theorem dX1_load_46 : decode cX1_load 46 = .ok (.iaload, 1) := by decide +kernel
theorem dX1_load_47 : decode cX1_load 47 = .ok (.aload_n 0, 1) := by decide +kernel
theorem dX1_load_48 : decode cX1_load 48 = .ok (.getfield 18, 3) := by decide +kernel
theorem dX1_load_51 : decode cX1_load 51 = .ok (.iload_n 2, 1) := by decide +kernel
theorem dX1_load_52 : decode cX1_load 52 = .ok (.iaload, 1) := by decide +kernel
theorem dX1_load_53 : decode cX1_load 53 = .ok (.if_icmp .ne 10, 3) := by decide +kernel
theorem dX1_load_56 : decode cX1_load 56 = .ok (.iload_n 2, 1) := by decide +kernel
theorem dX1_load_57 : decode cX1_load 57 = .ok (.iconst 1, 1) := by decide +kernel
theorem dX1_load_58 : decode cX1_load 58 = .ok (.isub, 1) := by decide +kernel
theorem dX1_load_59 : decode cX1_load 59 = .ok (.istore_n 2, 1) := by decide +kernel
theorem dX1_load_60 : decode cX1_load 60 = .ok (.goto (-23), 3) := by decide +kernel
theorem dX1_load_63 : decode cX1_load 63 = .ok (.aload_n 0, 1) := by decide +kernel
theorem dX1_load_64 : decode cX1_load 64 = .ok (.getfield 24, 3) := by decide +kernel
theorem dX1_load_67 : decode cX1_load 67 = .ok (.iload_n 2, 1) := by decide +kernel
theorem dX1_load_68 : decode cX1_load 68 = .ok (.iaload, 1) := by decide +kernel
theorem dX1_load_69 : decode cX1_load 69 = .ok (.aload_n 0, 1) := by decide +kernel
theorem dX1_load_70 : decode cX1_load 70 = .ok (.getfield 18, 3) := by decide +kernel
theorem dX1_load_73 : decode cX1_load 73 = .ok (.iload_n 2, 1) := by decide +kernel
theorem dX1_load_74 : decode cX1_load 74 = .ok (.iaload, 1) := by decide +kernel
theorem dX1_load_75 : decode cX1_load 75 = .ok (.if_icmp .lt 7, 3) := by decide +kernel
theorem dX1_load_78 : decode cX1_load 78 = .ok (.iconst 1, 1) := by decide +kernel
theorem dX1_load_79 : decode cX1_load 79 = .ok (.goto 4, 3) := by decide +kernel
theorem dX1_load_82 : decode cX1_load 82 = .ok (.iconst 0, 1) := by decide +kernel
theorem dX1_load_83 : decode cX1_load 83 = .ok (.istore_n 3, 1) := by decide +kernel
theorem dX1_load_84 : decode cX1_load 84 = .ok (.aload_n 0, 1) := by decide +kernel
theorem dX1_load_85 : decode cX1_load 85 = .ok (.aload_n 0, 1) := by decide +kernel
theorem dX1_load_86 : decode cX1_load 86 = .ok (.getfield 27, 3) := by decide +kernel
theorem dX1_load_89 : decode cX1_load 89 = .ok (.aload_n 0, 1) := by decide +kernel
theorem dX1_load_90 : decode cX1_load 90 = .ok (.getfield 24, 3) := by decide +kernel
theorem dX1_load_93 : decode cX1_load 93 = .ok (.invokevirtual 48, 3) := by decide +kernel
theorem dX1_load_96 : decode cX1_load 96 = .ok (.aload_n 0, 1) := by decide +kernel
theorem dX1_load_97 : decode cX1_load 97 = .ok (.iload_n 1, 1) := by decide +kernel
theorem dX1_load_98 : decode cX1_load 98 = .ok (.aload_n 0, 1) := by decide +kernel
theorem dX1_load_99 : decode cX1_load 99 = .ok (.getfield 27, 3) := by decide +kernel
theorem dX1_load_102 : decode cX1_load 102 = .ok (.invokevirtual 61, 3) := by decide +kernel
theorem dX1_load_105 : decode cX1_load 105 = .ok (.iload_n 3, 1) := by decide +kernel
theorem dX1_load_106 : decode cX1_load 106 = .ok (.ireturn, 1) := by decide +kernel
theorem dX1_fold_0 : decode cX1_fold 0 = .ok (.aload_n 2, 1) := by decide +kernel
theorem dX1_fold_1 : decode cX1_fold 1 = .ok (.bipush 24, 2) := by decide +kernel
theorem dX1_fold_3 : decode cX1_fold 3 = .ok (.iaload, 1) := by decide +kernel
theorem dX1_fold_4 : decode cX1_fold 4 = .ok (.ifCond .eq 7, 3) := by decide +kernel
theorem dX1_fold_7 : decode cX1_fold 7 = .ok (.iconst 1, 1) := by decide +kernel
theorem dX1_fold_8 : decode cX1_fold 8 = .ok (.goto 4, 3) := by decide +kernel
theorem dX1_fold_11 : decode cX1_fold 11 = .ok (.iconst 0, 1) := by decide +kernel
theorem dX1_fold_12 : decode cX1_fold 12 = .ok (.istore_n 3, 1) := by decide +kernel
theorem dX1_fold_13 : decode cX1_fold 13 = .ok (.iload_n 3, 1) := by decide +kernel
theorem dX1_fold_14 : decode cX1_fold 14 = .ok (.ifCond .ne 55, 3) := by decide +kernel
theorem dX1_fold_17 : decode cX1_fold 17 = .ok (.bipush 23, 2) := by decide +kernel
theorem dX1_fold_19 : decode cX1_fold 19 = .ok (.istore 4, 2) := by decide +kernel
theorem dX1_fold_21 : decode cX1_fold 21 = .ok (.iload 4, 2) := by decide +kernel
theorem dX1_fold_23 : decode cX1_fold 23 = .ok (.ifCond .le 26, 3) := by decide +kernel
theorem dX1_fold_26 : decode cX1_fold 26 = .ok (.aload_n 2, 1) := by decide +kernel
theorem dX1_fold_27 : decode cX1_fold 27 = .ok (.iload 4, 2) := by decide +kernel
theorem dX1_fold_29 : decode cX1_fold 29 = .ok (.iaload, 1) := by decide +kernel
theorem dX1_fold_30 : decode cX1_fold 30 = .ok (.aload_n 0, 1) := by decide +kernel
theorem dX1_fold_31 : decode cX1_fold 31 = .ok (.getfield 18, 3) := by decide +kernel
theorem dX1_fold_34 : decode cX1_fold 34 = .ok (.iload 4, 2) := by decide +kernel
theorem dX1_fold_36 : decode cX1_fold 36 = .ok (.iaload, 1) := by decide +kernel
theorem dX1_fold_37 : decode cX1_fold 37 = .ok (.if_icmp .ne 12, 3) := by decide +kernel
theorem dX1_fold_40 : decode cX1_fold 40 = .ok (.iload 4, 2) := by decide +kernel
theorem dX1_fold_42 : decode cX1_fold 42 = .ok (.iconst 1, 1) := by decide +kernel
theorem dX1_fold_43 : decode cX1_fold 43 = .ok (.isub, 1) := by decide +kernel
theorem dX1_fold_44 : decode cX1_fold 44 = .ok (.istore 4, 2) := by decide +kernel
theorem dX1_fold_46 : decode cX1_fold 46 = .ok (.goto (-25), 3) := by decide +kernel
theorem dX1_fold_49 : decode cX1_fold 49 = .ok (.aload_n 2, 1) := by decide +kernel
theorem dX1_fold_50 : decode cX1_fold 50 = .ok (.iload 4, 2) := by decide +kernel
theorem dX1_fold_52 : decode cX1_fold 52 = .ok (.iaload, 1) := by decide +kernel
theorem dX1_fold_53 : decode cX1_fold 53 = .ok (.aload_n 0, 1) := by decide +kernel
theorem dX1_fold_54 : decode cX1_fold 54 = .ok (.getfield 18, 3) := by decide +kernel
theorem dX1_fold_57 : decode cX1_fold 57 = .ok (.iload 4, 2) := by decide +kernel
theorem dX1_fold_59 : decode cX1_fold 59 = .ok (.iaload, 1) := by decide +kernel
theorem dX1_fold_60 : decode cX1_fold 60 = .ok (.if_icmp .lt 7, 3) := by decide +kernel
theorem dX1_fold_63 : decode cX1_fold 63 = .ok (.iconst 1, 1) := by decide +kernel
theorem dX1_fold_64 : decode cX1_fold 64 = .ok (.goto 4, 3) := by decide +kernel
theorem dX1_fold_67 : decode cX1_fold 67 = .ok (.iconst 0, 1) := by decide +kernel
theorem dX1_fold_68 : decode cX1_fold 68 = .ok (.istore_n 3, 1) := by decide +kernel
theorem dX1_fold_69 : decode cX1_fold 69 = .ok (.iconst 0, 1) := by decide +kernel
theorem dX1_fold_70 : decode cX1_fold 70 = .ok (.istore 4, 2) := by decide +kernel
theorem dX1_fold_72 : decode cX1_fold 72 = .ok (.iconst 0, 1) := by decide +kernel
theorem dX1_fold_73 : decode cX1_fold 73 = .ok (.istore 5, 2) := by decide +kernel
theorem dX1_fold_75 : decode cX1_fold 75 = .ok (.iload 5, 2) := by decide +kernel
theorem dX1_fold_77 : decode cX1_fold 77 = .ok (.bipush 24, 2) := by decide +kernel
theorem dX1_fold_79 : decode cX1_fold 79 = .ok (.if_icmp .ge 50, 3) := by decide +kernel
theorem dX1_fold_82 : decode cX1_fold 82 = .ok (.aload_n 2, 1) := by decide +kernel
theorem dX1_fold_83 : decode cX1_fold 83 = .ok (.iload 5, 2) := by decide +kernel
theorem dX1_fold_85 : decode cX1_fold 85 = .ok (.iaload, 1) := by decide +kernel
theorem dX1_fold_86 : decode cX1_fold 86 = .ok (.iload_n 3, 1) := by decide +kernel
theorem dX1_fold_87 : decode cX1_fold 87 = .ok (.ifCond .eq 13, 3) := by decide +kernel
theorem dX1_fold_90 : decode cX1_fold 90 = .ok (.aload_n 0, 1) := by decide +kernel
theorem dX1_fold_91 : decode cX1_fold 91 = .ok (.getfield 18, 3) := by decide +kernel
theorem dX1_fold_94 : decode cX1_fold 94 = .ok (.iload 5, 2) := by decide +kernel
theorem dX1_fold_96 : decode cX1_fold 96 = .ok (.iaload, 1) := by decide +kernel
theorem dX1_fold_97 : decode cX1_fold 97 = .ok (.goto 4, 3) := by decide +kernel
theorem dX1_fold_100 : decode cX1_fold 100 = .ok (.iconst 0, 1) := by decide +kernel
theorem dX1_fold_101 : decode cX1_fold 101 = .ok (.isub, 1) := by decide +kernel
theorem dX1_fold_102 : decode cX1_fold 102 = .ok (.iload 4, 2) := by decide +kernel
theorem dX1_fold_104 : decode cX1_fold 104 = .ok (.iadd, 1) := by decide +kernel
theorem dX1_fold_105 : decode cX1_fold 105 = .ok (.istore 6, 2) := by decide +kernel
theorem dX1_fold_107 : decode cX1_fold 107 = .ok (.aload_n 1, 1) := by decide +kernel
theorem dX1_fold_108 : decode cX1_fold 108 = .ok (.iload 5, 2) := by decide +kernel
theorem dX1_fold_110 : decode cX1_fold 110 = .ok (.iload 6, 2) := by decide +kernel
theorem dX1_fold_112 : decode cX1_fold 112 = .ok (.ldc 16, 2) := by decide +kernel
theorem dX1_fold_114 : decode cX1_fold 114 = .ok (.iand, 1) := by decide +kernel
theorem dX1_fold_115 : decode cX1_fold 115 = .ok (.iastore, 1) := by decide +kernel
theorem dX1_fold_116 : decode cX1_fold 116 = .ok (.iload 6, 2) := by decide +kernel
theorem dX1_fold_118 : decode cX1_fold 118 = .ok (.bipush 16, 2) := by decide +kernel
theorem dX1_fold_120 : decode cX1_fold 120 = .ok (.ishr, 1) := by decide +kernel
theorem dX1_fold_121 : decode cX1_fold 121 = .ok (.istore 4, 2) := by decide +kernel
theorem dX1_fold_123 : decode cX1_fold 123 = .ok (.iinc 5 1, 3) := by decide +kernel
theorem dX1_fold_126 : decode cX1_fold 126 = .ok (.goto (-51), 3) := by decide +kernel
theorem dX1_fold_129 : decode cX1_fold 129 = .ok (.return_, 1) := by decide +kernel
theorem dX1_give_0 : decode cX1_give 0 = .ok (.iconst 0, 1) := by decide +kernel
theorem dX1_give_1 : decode cX1_give 1 = .ok (.istore_n 3, 1) := by decide +kernel
theorem dX1_give_2 : decode cX1_give 2 = .ok (.iload_n 3, 1) := by decide +kernel
theorem dX1_give_3 : decode cX1_give 3 = .ok (.bipush 24, 2) := by decide +kernel
theorem dX1_give_5 : decode cX1_give 5 = .ok (.if_icmp .ge 25, 3) := by decide +kernel
theorem dX1_give_8 : decode cX1_give 8 = .ok (.aload_n 0, 1) := by decide +kernel
theorem dX1_give_9 : decode cX1_give 9 = .ok (.getfield 7, 3) := by decide +kernel
theorem dX1_give_12 : decode cX1_give 12 = .ok (.iload_n 1, 1) := by decide +kernel
theorem dX1_give_13 : decode cX1_give 13 = .ok (.iconst 3, 1) := by decide +kernel
theorem dX1_give_14 : decode cX1_give 14 = .ok (.iand, 1) := by decide +kernel
theorem dX1_give_15 : decode cX1_give 15 = .ok (.bipush 24, 2) := by decide +kernel
theorem dX1_give_17 : decode cX1_give 17 = .ok (.imul, 1) := by decide +kernel
theorem dX1_give_18 : decode cX1_give 18 = .ok (.iload_n 3, 1) := by decide +kernel
theorem dX1_give_19 : decode cX1_give 19 = .ok (.iadd, 1) := by decide +kernel
theorem dX1_give_20 : decode cX1_give 20 = .ok (.aload_n 2, 1) := by decide +kernel
theorem dX1_give_21 : decode cX1_give 21 = .ok (.iload_n 3, 1) := by decide +kernel
theorem dX1_give_22 : decode cX1_give 22 = .ok (.iaload, 1) := by decide +kernel
theorem dX1_give_23 : decode cX1_give 23 = .ok (.iastore, 1) := by decide +kernel
theorem dX1_give_24 : decode cX1_give 24 = .ok (.iinc 3 1, 3) := by decide +kernel
theorem dX1_give_27 : decode cX1_give 27 = .ok (.goto (-25), 3) := by decide +kernel
theorem dX1_give_30 : decode cX1_give 30 = .ok (.return_, 1) := by decide +kernel
theorem dX1_word_0 : decode cX1_word 0 = .ok (.iload_n 1, 1) := by decide +kernel
theorem dX1_word_1 : decode cX1_word 1 = .ok (.iconst 3, 1) := by decide +kernel
theorem dX1_word_2 : decode cX1_word 2 = .ok (.iand, 1) := by decide +kernel
theorem dX1_word_3 : decode cX1_word 3 = .ok (.bipush 24, 2) := by decide +kernel
theorem dX1_word_5 : decode cX1_word 5 = .ok (.imul, 1) := by decide +kernel
theorem dX1_word_6 : decode cX1_word 6 = .ok (.iload_n 2, 1) := by decide +kernel
theorem dX1_word_7 : decode cX1_word 7 = .ok (.ldc 60, 2) := by decide +kernel
theorem dX1_word_9 : decode cX1_word 9 = .ok (.iand, 1) := by decide +kernel
theorem dX1_word_10 : decode cX1_word 10 = .ok (.bipush 12, 2) := by decide +kernel
theorem dX1_word_12 : decode cX1_word 12 = .ok (.irem, 1) := by decide +kernel
theorem dX1_word_13 : decode cX1_word 13 = .ok (.iconst 2, 1) := by decide +kernel
theorem dX1_word_14 : decode cX1_word 14 = .ok (.imul, 1) := by decide +kernel
theorem dX1_word_15 : decode cX1_word 15 = .ok (.iadd, 1) := by decide +kernel
theorem dX1_word_16 : decode cX1_word 16 = .ok (.istore_n 3, 1) := by decide +kernel
theorem dX1_word_17 : decode cX1_word 17 = .ok (.aload_n 0, 1) := by decide +kernel
theorem dX1_word_18 : decode cX1_word 18 = .ok (.getfield 7, 3) := by decide +kernel
theorem dX1_word_21 : decode cX1_word 21 = .ok (.iload_n 3, 1) := by decide +kernel
theorem dX1_word_22 : decode cX1_word 22 = .ok (.iaload, 1) := by decide +kernel
theorem dX1_word_23 : decode cX1_word 23 = .ok (.aload_n 0, 1) := by decide +kernel
theorem dX1_word_24 : decode cX1_word 24 = .ok (.getfield 7, 3) := by decide +kernel
theorem dX1_word_27 : decode cX1_word 27 = .ok (.iload_n 3, 1) := by decide +kernel
theorem dX1_word_28 : decode cX1_word 28 = .ok (.iconst 1, 1) := by decide +kernel
theorem dX1_word_29 : decode cX1_word 29 = .ok (.iadd, 1) := by decide +kernel
theorem dX1_word_30 : decode cX1_word 30 = .ok (.iaload, 1) := by decide +kernel
theorem dX1_word_31 : decode cX1_word 31 = .ok (.bipush 16, 2) := by decide +kernel
theorem dX1_word_33 : decode cX1_word 33 = .ok (.ishl, 1) := by decide +kernel
theorem dX1_word_34 : decode cX1_word 34 = .ok (.ior, 1) := by decide +kernel
theorem dX1_word_35 : decode cX1_word 35 = .ok (.ireturn, 1) := by decide +kernel
theorem dX1_add_0 : decode cX1_add 0 = .ok (.aload_n 0, 1) := by decide +kernel
theorem dX1_add_1 : decode cX1_add 1 = .ok (.aload_n 0, 1) := by decide +kernel
theorem dX1_add_2 : decode cX1_add 2 = .ok (.getfield 27, 3) := by decide +kernel
theorem dX1_add_5 : decode cX1_add 5 = .ok (.iload_n 2, 1) := by decide +kernel
theorem dX1_add_6 : decode cX1_add 6 = .ok (.invokevirtual 65, 3) := by decide +kernel
theorem dX1_add_9 : decode cX1_add 9 = .ok (.aload_n 0, 1) := by decide +kernel
theorem dX1_add_10 : decode cX1_add 10 = .ok (.aload_n 0, 1) := by decide +kernel
theorem dX1_add_11 : decode cX1_add 11 = .ok (.getfield 30, 3) := by decide +kernel
theorem dX1_add_14 : decode cX1_add 14 = .ok (.iload_n 3, 1) := by decide +kernel
theorem dX1_add_15 : decode cX1_add 15 = .ok (.invokevirtual 65, 3) := by decide +kernel
theorem dX1_add_18 : decode cX1_add 18 = .ok (.aload_n 0, 1) := by decide +kernel
theorem dX1_add_19 : decode cX1_add 19 = .ok (.aload_n 0, 1) := by decide +kernel
theorem dX1_add_20 : decode cX1_add 20 = .ok (.getfield 27, 3) := by decide +kernel
theorem dX1_add_23 : decode cX1_add 23 = .ok (.aload_n 0, 1) := by decide +kernel
theorem dX1_add_24 : decode cX1_add 24 = .ok (.getfield 27, 3) := by decide +kernel
theorem dX1_add_27 : decode cX1_add 27 = .ok (.aload_n 0, 1) := by decide +kernel
theorem dX1_add_28 : decode cX1_add 28 = .ok (.getfield 30, 3) := by decide +kernel
theorem dX1_add_31 : decode cX1_add 31 = .ok (.invokevirtual 56, 3) := by decide +kernel
theorem dX1_add_34 : decode cX1_add 34 = .ok (.aload_n 0, 1) := by decide +kernel
theorem dX1_add_35 : decode cX1_add 35 = .ok (.iload_n 1, 1) := by decide +kernel
theorem dX1_add_36 : decode cX1_add 36 = .ok (.aload_n 0, 1) := by decide +kernel
theorem dX1_add_37 : decode cX1_add 37 = .ok (.getfield 27, 3) := by decide +kernel
theorem dX1_add_40 : decode cX1_add 40 = .ok (.invokevirtual 61, 3) := by decide +kernel
theorem dX1_add_43 : decode cX1_add 43 = .ok (.return_, 1) := by decide +kernel
theorem dX1_take_0 : decode cX1_take 0 = .ok (.iconst 0, 1) := by decide +kernel
theorem dX1_take_1 : decode cX1_take 1 = .ok (.istore_n 3, 1) := by decide +kernel
theorem dX1_take_2 : decode cX1_take 2 = .ok (.iload_n 3, 1) := by decide +kernel
theorem dX1_take_3 : decode cX1_take 3 = .ok (.bipush 24, 2) := by decide +kernel
theorem dX1_take_5 : decode cX1_take 5 = .ok (.if_icmp .ge 25, 3) := by decide +kernel
theorem dX1_take_8 : decode cX1_take 8 = .ok (.aload_n 1, 1) := by decide +kernel
end
section
set_option maxRecDepth 100000
theorem dX1_take_9 : decode cX1_take 9 = .ok (.iload_n 3, 1) := by decide +kernel
theorem dX1_take_10 : decode cX1_take 10 = .ok (.aload_n 0, 1) := by decide +kernel
theorem dX1_take_11 : decode cX1_take 11 = .ok (.getfield 7, 3) := by decide +kernel
theorem dX1_take_14 : decode cX1_take 14 = .ok (.iload_n 2, 1) := by decide +kernel
theorem dX1_take_15 : decode cX1_take 15 = .ok (.iconst 3, 1) := by decide +kernel
theorem dX1_take_16 : decode cX1_take 16 = .ok (.iand, 1) := by decide +kernel
theorem dX1_take_17 : decode cX1_take 17 = .ok (.bipush 24, 2) := by decide +kernel
theorem dX1_take_19 : decode cX1_take 19 = .ok (.imul, 1) := by decide +kernel
theorem dX1_take_20 : decode cX1_take 20 = .ok (.iload_n 3, 1) := by decide +kernel
theorem dX1_take_21 : decode cX1_take 21 = .ok (.iadd, 1) := by decide +kernel
theorem dX1_take_22 : decode cX1_take 22 = .ok (.iaload, 1) := by decide +kernel
theorem dX1_take_23 : decode cX1_take 23 = .ok (.iastore, 1) := by decide +kernel
theorem dX1_take_24 : decode cX1_take 24 = .ok (.iinc 3 1, 3) := by decide +kernel
theorem dX1_take_27 : decode cX1_take 27 = .ok (.goto (-25), 3) := by decide +kernel
theorem dX1_take_30 : decode cX1_take 30 = .ok (.return_, 1) := by decide +kernel
theorem dX1_plus_0 : decode cX1_plus 0 = .ok (.iconst 0, 1) := by decide +kernel
theorem dX1_plus_1 : decode cX1_plus 1 = .ok (.istore 4, 2) := by decide +kernel
theorem dX1_plus_3 : decode cX1_plus 3 = .ok (.iconst 0, 1) := by decide +kernel
theorem dX1_plus_4 : decode cX1_plus 4 = .ok (.istore 5, 2) := by decide +kernel
theorem dX1_plus_6 : decode cX1_plus 6 = .ok (.iload 5, 2) := by decide +kernel
theorem dX1_plus_8 : decode cX1_plus 8 = .ok (.bipush 24, 2) := by decide +kernel
theorem dX1_plus_10 : decode cX1_plus 10 = .ok (.if_icmp .ge 42, 3) := by decide +kernel
theorem dX1_plus_13 : decode cX1_plus 13 = .ok (.aload_n 2, 1) := by decide +kernel
theorem dX1_plus_14 : decode cX1_plus 14 = .ok (.iload 5, 2) := by decide +kernel
theorem dX1_plus_16 : decode cX1_plus 16 = .ok (.iaload, 1) := by decide +kernel
theorem dX1_plus_17 : decode cX1_plus 17 = .ok (.aload_n 3, 1) := by decide +kernel
theorem dX1_plus_18 : decode cX1_plus 18 = .ok (.iload 5, 2) := by decide +kernel
theorem dX1_plus_20 : decode cX1_plus 20 = .ok (.iaload, 1) := by decide +kernel
theorem dX1_plus_21 : decode cX1_plus 21 = .ok (.iadd, 1) := by decide +kernel
theorem dX1_plus_22 : decode cX1_plus 22 = .ok (.iload 4, 2) := by decide +kernel
theorem dX1_plus_24 : decode cX1_plus 24 = .ok (.iadd, 1) := by decide +kernel
theorem dX1_plus_25 : decode cX1_plus 25 = .ok (.istore 6, 2) := by decide +kernel
theorem dX1_plus_27 : decode cX1_plus 27 = .ok (.aload_n 0, 1) := by decide +kernel
theorem dX1_plus_28 : decode cX1_plus 28 = .ok (.getfield 24, 3) := by decide +kernel
theorem dX1_plus_31 : decode cX1_plus 31 = .ok (.iload 5, 2) := by decide +kernel
theorem dX1_plus_33 : decode cX1_plus 33 = .ok (.iload 6, 2) := by decide +kernel
theorem dX1_plus_35 : decode cX1_plus 35 = .ok (.ldc 16, 2) := by decide +kernel
theorem dX1_plus_37 : decode cX1_plus 37 = .ok (.iand, 1) := by decide +kernel
theorem dX1_plus_38 : decode cX1_plus 38 = .ok (.iastore, 1) := by decide +kernel
theorem dX1_plus_39 : decode cX1_plus 39 = .ok (.iload 6, 2) := by decide +kernel
theorem dX1_plus_41 : decode cX1_plus 41 = .ok (.bipush 16, 2) := by decide +kernel
theorem dX1_plus_43 : decode cX1_plus 43 = .ok (.ishr, 1) := by decide +kernel
theorem dX1_plus_44 : decode cX1_plus 44 = .ok (.istore 4, 2) := by decide +kernel
theorem dX1_plus_46 : decode cX1_plus 46 = .ok (.iinc 5 1, 3) := by decide +kernel
theorem dX1_plus_49 : decode cX1_plus 49 = .ok (.goto (-43), 3) := by decide +kernel
theorem dX1_plus_52 : decode cX1_plus 52 = .ok (.aload_n 0, 1) := by decide +kernel
theorem dX1_plus_53 : decode cX1_plus 53 = .ok (.getfield 24, 3) := by decide +kernel
theorem dX1_plus_56 : decode cX1_plus 56 = .ok (.bipush 24, 2) := by decide +kernel
theorem dX1_plus_58 : decode cX1_plus 58 = .ok (.iload 4, 2) := by decide +kernel
theorem dX1_plus_60 : decode cX1_plus 60 = .ok (.iastore, 1) := by decide +kernel
theorem dX1_plus_61 : decode cX1_plus 61 = .ok (.aload_n 0, 1) := by decide +kernel
theorem dX1_plus_62 : decode cX1_plus 62 = .ok (.aload_n 1, 1) := by decide +kernel
theorem dX1_plus_63 : decode cX1_plus 63 = .ok (.aload_n 0, 1) := by decide +kernel
theorem dX1_plus_64 : decode cX1_plus 64 = .ok (.getfield 24, 3) := by decide +kernel
theorem dX1_plus_67 : decode cX1_plus 67 = .ok (.invokevirtual 48, 3) := by decide +kernel
theorem dX1_plus_70 : decode cX1_plus 70 = .ok (.return_, 1) := by decide +kernel
theorem dX1_subtract_0 : decode cX1_subtract 0 = .ok (.aload_n 0, 1) := by decide +kernel
theorem dX1_subtract_1 : decode cX1_subtract 1 = .ok (.aload_n 0, 1) := by decide +kernel
theorem dX1_subtract_2 : decode cX1_subtract 2 = .ok (.getfield 27, 3) := by decide +kernel
theorem dX1_subtract_5 : decode cX1_subtract 5 = .ok (.iload_n 2, 1) := by decide +kernel
theorem dX1_subtract_6 : decode cX1_subtract 6 = .ok (.invokevirtual 65, 3) := by decide +kernel
theorem dX1_subtract_9 : decode cX1_subtract 9 = .ok (.aload_n 0, 1) := by decide +kernel
theorem dX1_subtract_10 : decode cX1_subtract 10 = .ok (.aload_n 0, 1) := by decide +kernel
theorem dX1_subtract_11 : decode cX1_subtract 11 = .ok (.getfield 30, 3) := by decide +kernel
theorem dX1_subtract_14 : decode cX1_subtract 14 = .ok (.iload_n 3, 1) := by decide +kernel
theorem dX1_subtract_15 : decode cX1_subtract 15 = .ok (.invokevirtual 65, 3) := by decide +kernel
theorem dX1_subtract_18 : decode cX1_subtract 18 = .ok (.aload_n 0, 1) := by decide +kernel
theorem dX1_subtract_19 : decode cX1_subtract 19 = .ok (.aload_n 0, 1) := by decide +kernel
theorem dX1_subtract_20 : decode cX1_subtract 20 = .ok (.getfield 30, 3) := by decide +kernel
theorem dX1_subtract_23 : decode cX1_subtract 23 = .ok (.aload_n 0, 1) := by decide +kernel
theorem dX1_subtract_24 : decode cX1_subtract 24 = .ok (.getfield 30, 3) := by decide +kernel
theorem dX1_subtract_27 : decode cX1_subtract 27 = .ok (.invokevirtual 69, 3) := by decide +kernel
theorem dX1_subtract_30 : decode cX1_subtract 30 = .ok (.aload_n 0, 1) := by decide +kernel
theorem dX1_subtract_31 : decode cX1_subtract 31 = .ok (.aload_n 0, 1) := by decide +kernel
theorem dX1_subtract_32 : decode cX1_subtract 32 = .ok (.getfield 27, 3) := by decide +kernel
theorem dX1_subtract_35 : decode cX1_subtract 35 = .ok (.aload_n 0, 1) := by decide +kernel
theorem dX1_subtract_36 : decode cX1_subtract 36 = .ok (.getfield 27, 3) := by decide +kernel
theorem dX1_subtract_39 : decode cX1_subtract 39 = .ok (.aload_n 0, 1) := by decide +kernel
theorem dX1_subtract_40 : decode cX1_subtract 40 = .ok (.getfield 30, 3) := by decide +kernel
theorem dX1_subtract_43 : decode cX1_subtract 43 = .ok (.invokevirtual 56, 3) := by decide +kernel
theorem dX1_subtract_46 : decode cX1_subtract 46 = .ok (.aload_n 0, 1) := by decide +kernel
theorem dX1_subtract_47 : decode cX1_subtract 47 = .ok (.iload_n 1, 1) := by decide +kernel
theorem dX1_subtract_48 : decode cX1_subtract 48 = .ok (.aload_n 0, 1) := by decide +kernel
theorem dX1_subtract_49 : decode cX1_subtract 49 = .ok (.getfield 27, 3) := by decide +kernel
theorem dX1_subtract_52 : decode cX1_subtract 52 = .ok (.invokevirtual 61, 3) := by decide +kernel
theorem dX1_subtract_55 : decode cX1_subtract 55 = .ok (.return_, 1) := by decide +kernel
theorem dX1_minus_0 : decode cX1_minus 0 = .ok (.aload_n 0, 1) := by decide +kernel
theorem dX1_minus_1 : decode cX1_minus 1 = .ok (.aload_n 2, 1) := by decide +kernel
theorem dX1_minus_2 : decode cX1_minus 2 = .ok (.invokevirtual 52, 3) := by decide +kernel
theorem dX1_minus_5 : decode cX1_minus 5 = .ok (.ifCond .eq 24, 3) := by decide +kernel
theorem dX1_minus_8 : decode cX1_minus 8 = .ok (.iconst 0, 1) := by decide +kernel
theorem dX1_minus_9 : decode cX1_minus 9 = .ok (.istore_n 3, 1) := by decide +kernel
theorem dX1_minus_10 : decode cX1_minus 10 = .ok (.iload_n 3, 1) := by decide +kernel
theorem dX1_minus_11 : decode cX1_minus 11 = .ok (.bipush 24, 2) := by decide +kernel
theorem dX1_minus_13 : decode cX1_minus 13 = .ok (.if_icmp .ge 13, 3) := by decide +kernel
theorem dX1_minus_16 : decode cX1_minus 16 = .ok (.aload_n 1, 1) := by decide +kernel
theorem dX1_minus_17 : decode cX1_minus 17 = .ok (.iload_n 3, 1) := by decide +kernel
theorem dX1_minus_18 : decode cX1_minus 18 = .ok (.iconst 0, 1) := by decide +kernel
theorem dX1_minus_19 : decode cX1_minus 19 = .ok (.iastore, 1) := by decide +kernel
theorem dX1_minus_20 : decode cX1_minus 20 = .ok (.iinc 3 1, 3) := by decide +kernel
theorem dX1_minus_23 : decode cX1_minus 23 = .ok (.goto (-13), 3) := by decide +kernel
theorem dX1_minus_26 : decode cX1_minus 26 = .ok (.goto 52, 3) := by decide +kernel
theorem dX1_minus_29 : decode cX1_minus 29 = .ok (.iconst 0, 1) := by decide +kernel
theorem dX1_minus_30 : decode cX1_minus 30 = .ok (.istore_n 3, 1) := by decide +kernel
theorem dX1_minus_31 : decode cX1_minus 31 = .ok (.iconst 0, 1) := by decide +kernel
theorem dX1_minus_32 : decode cX1_minus 32 = .ok (.istore 4, 2) := by decide +kernel
theorem dX1_minus_34 : decode cX1_minus 34 = .ok (.iload 4, 2) := by decide +kernel
theorem dX1_minus_36 : decode cX1_minus 36 = .ok (.bipush 24, 2) := by decide +kernel
theorem dX1_minus_38 : decode cX1_minus 38 = .ok (.if_icmp .ge 40, 3) := by decide +kernel
theorem dX1_minus_41 : decode cX1_minus 41 = .ok (.aload_n 0, 1) := by decide +kernel
theorem dX1_minus_42 : decode cX1_minus 42 = .ok (.getfield 18, 3) := by decide +kernel
theorem dX1_minus_45 : decode cX1_minus 45 = .ok (.iload 4, 2) := by decide +kernel
theorem dX1_minus_47 : decode cX1_minus 47 = .ok (.iaload, 1) := by decide +kernel
theorem dX1_minus_48 : decode cX1_minus 48 = .ok (.aload_n 2, 1) := by decide +kernel
theorem dX1_minus_49 : decode cX1_minus 49 = .ok (.iload 4, 2) := by decide +kernel
theorem dX1_minus_51 : decode cX1_minus 51 = .ok (.iaload, 1) := by decide +kernel
theorem dX1_minus_52 : decode cX1_minus 52 = .ok (.isub, 1) := by decide +kernel
theorem dX1_minus_53 : decode cX1_minus 53 = .ok (.iload_n 3, 1) := by decide +kernel
theorem dX1_minus_54 : decode cX1_minus 54 = .ok (.iadd, 1) := by decide +kernel
theorem dX1_minus_55 : decode cX1_minus 55 = .ok (.istore 5, 2) := by decide +kernel
theorem dX1_minus_57 : decode cX1_minus 57 = .ok (.aload_n 1, 1) := by decide +kernel
theorem dX1_minus_58 : decode cX1_minus 58 = .ok (.iload 4, 2) := by decide +kernel
theorem dX1_minus_60 : decode cX1_minus 60 = .ok (.iload 5, 2) := by decide +kernel
theorem dX1_minus_62 : decode cX1_minus 62 = .ok (.ldc 16, 2) := by decide +kernel
theorem dX1_minus_64 : decode cX1_minus 64 = .ok (.iand, 1) := by decide +kernel
theorem dX1_minus_65 : decode cX1_minus 65 = .ok (.iastore, 1) := by decide +kernel
theorem dX1_minus_66 : decode cX1_minus 66 = .ok (.iload 5, 2) := by decide +kernel
theorem dX1_minus_68 : decode cX1_minus 68 = .ok (.bipush 16, 2) := by decide +kernel
theorem dX1_minus_70 : decode cX1_minus 70 = .ok (.ishr, 1) := by decide +kernel
theorem dX1_minus_71 : decode cX1_minus 71 = .ok (.istore_n 3, 1) := by decide +kernel
theorem dX1_minus_72 : decode cX1_minus 72 = .ok (.iinc 4 1, 3) := by decide +kernel
theorem dX1_minus_75 : decode cX1_minus 75 = .ok (.goto (-41), 3) := by decide +kernel
theorem dX1_minus_78 : decode cX1_minus 78 = .ok (.return_, 1) := by decide +kernel
theorem dX1_isZero_0 : decode cX1_isZero 0 = .ok (.iconst 1, 1) := by decide +kernel
theorem dX1_isZero_1 : decode cX1_isZero 1 = .ok (.istore_n 2, 1) := by decide +kernel
theorem dX1_isZero_2 : decode cX1_isZero 2 = .ok (.iconst 0, 1) := by decide +kernel
theorem dX1_isZero_3 : decode cX1_isZero 3 = .ok (.istore_n 3, 1) := by decide +kernel
theorem dX1_isZero_4 : decode cX1_isZero 4 = .ok (.iload_n 3, 1) := by decide +kernel
theorem dX1_isZero_5 : decode cX1_isZero 5 = .ok (.bipush 24, 2) := by decide +kernel
theorem dX1_isZero_7 : decode cX1_isZero 7 = .ok (.if_icmp .ge 25, 3) := by decide +kernel
theorem dX1_isZero_10 : decode cX1_isZero 10 = .ok (.iload_n 2, 1) := by decide +kernel
theorem dX1_isZero_11 : decode cX1_isZero 11 = .ok (.ifCond .eq 13, 3) := by decide +kernel
theorem dX1_isZero_14 : decode cX1_isZero 14 = .ok (.aload_n 1, 1) := by decide +kernel
theorem dX1_isZero_15 : decode cX1_isZero 15 = .ok (.iload_n 3, 1) := by decide +kernel
theorem dX1_isZero_16 : decode cX1_isZero 16 = .ok (.iaload, 1) := by decide +kernel
theorem dX1_isZero_17 : decode cX1_isZero 17 = .ok (.ifCond .ne 7, 3) := by decide +kernel
theorem dX1_isZero_20 : decode cX1_isZero 20 = .ok (.iconst 1, 1) := by decide +kernel
theorem dX1_isZero_21 : decode cX1_isZero 21 = .ok (.goto 4, 3) := by decide +kernel
theorem dX1_isZero_24 : decode cX1_isZero 24 = .ok (.iconst 0, 1) := by decide +kernel
theorem dX1_isZero_25 : decode cX1_isZero 25 = .ok (.istore_n 2, 1) := by decide +kernel
theorem dX1_isZero_26 : decode cX1_isZero 26 = .ok (.iinc 3 1, 3) := by decide +kernel
theorem dX1_isZero_29 : decode cX1_isZero 29 = .ok (.goto (-25), 3) := by decide +kernel
theorem dX1_isZero_32 : decode cX1_isZero 32 = .ok (.iload_n 2, 1) := by decide +kernel
theorem dX1_isZero_33 : decode cX1_isZero 33 = .ok (.ireturn, 1) := by decide +kernel
theorem dX1_multiply_0 : decode cX1_multiply 0 = .ok (.aload_n 0, 1) := by decide +kernel
theorem dX1_multiply_1 : decode cX1_multiply 1 = .ok (.aload_n 0, 1) := by decide +kernel
theorem dX1_multiply_2 : decode cX1_multiply 2 = .ok (.getfield 27, 3) := by decide +kernel
theorem dX1_multiply_5 : decode cX1_multiply 5 = .ok (.iload_n 2, 1) := by decide +kernel
theorem dX1_multiply_6 : decode cX1_multiply 6 = .ok (.invokevirtual 65, 3) := by decide +kernel
theorem dX1_multiply_9 : decode cX1_multiply 9 = .ok (.aload_n 0, 1) := by decide +kernel
theorem dX1_multiply_10 : decode cX1_multiply 10 = .ok (.aload_n 0, 1) := by decide +kernel
theorem dX1_multiply_11 : decode cX1_multiply 11 = .ok (.getfield 30, 3) := by decide +kernel
theorem dX1_multiply_14 : decode cX1_multiply 14 = .ok (.iload_n 3, 1) := by decide +kernel
theorem dX1_multiply_15 : decode cX1_multiply 15 = .ok (.invokevirtual 65, 3) := by decide +kernel
theorem dX1_multiply_18 : decode cX1_multiply 18 = .ok (.aload_n 0, 1) := by decide +kernel
theorem dX1_multiply_19 : decode cX1_multiply 19 = .ok (.aload_n 0, 1) := by decide +kernel
theorem dX1_multiply_20 : decode cX1_multiply 20 = .ok (.getfield 27, 3) := by decide +kernel
theorem dX1_multiply_23 : decode cX1_multiply 23 = .ok (.aload_n 0, 1) := by decide +kernel
theorem dX1_multiply_24 : decode cX1_multiply 24 = .ok (.getfield 30, 3) := by decide +kernel
theorem dX1_multiply_27 : decode cX1_multiply 27 = .ok (.invokevirtual 72, 3) := by decide +kernel
theorem dX1_multiply_30 : decode cX1_multiply 30 = .ok (.aload_n 0, 1) := by decide +kernel
theorem dX1_multiply_31 : decode cX1_multiply 31 = .ok (.iload_n 1, 1) := by decide +kernel
theorem dX1_multiply_32 : decode cX1_multiply 32 = .ok (.aload_n 0, 1) := by decide +kernel
theorem dX1_multiply_33 : decode cX1_multiply 33 = .ok (.getfield 33, 3) := by decide +kernel
theorem dX1_multiply_36 : decode cX1_multiply 36 = .ok (.invokevirtual 61, 3) := by decide +kernel
theorem dX1_multiply_39 : decode cX1_multiply 39 = .ok (.return_, 1) := by decide +kernel
theorem dX1_times_0 : decode cX1_times 0 = .ok (.iconst 0, 1) := by decide +kernel
theorem dX1_times_1 : decode cX1_times 1 = .ok (.istore_n 3, 1) := by decide +kernel
theorem dX1_times_2 : decode cX1_times 2 = .ok (.iload_n 3, 1) := by decide +kernel
theorem dX1_times_3 : decode cX1_times 3 = .ok (.bipush 24, 2) := by decide +kernel
theorem dX1_times_5 : decode cX1_times 5 = .ok (.if_icmp .ge 16, 3) := by decide +kernel
theorem dX1_times_8 : decode cX1_times 8 = .ok (.aload_n 0, 1) := by decide +kernel
theorem dX1_times_9 : decode cX1_times 9 = .ok (.getfield 33, 3) := by decide +kernel
theorem dX1_times_12 : decode cX1_times 12 = .ok (.iload_n 3, 1) := by decide +kernel
theorem dX1_times_13 : decode cX1_times 13 = .ok (.iconst 0, 1) := by decide +kernel
theorem dX1_times_14 : decode cX1_times 14 = .ok (.iastore, 1) := by decide +kernel
theorem dX1_times_15 : decode cX1_times 15 = .ok (.iinc 3 1, 3) := by decide +kernel
theorem dX1_times_18 : decode cX1_times 18 = .ok (.goto (-16), 3) := by decide +kernel
theorem dX1_times_21 : decode cX1_times 21 = .ok (.sipush 383, 3) := by decide +kernel
theorem dX1_times_24 : decode cX1_times 24 = .ok (.istore_n 3, 1) := by decide +kernel
theorem dX1_times_25 : decode cX1_times 25 = .ok (.iload_n 3, 1) := by decide +kernel
theorem dX1_times_26 : decode cX1_times 26 = .ok (.ifCond .lt 53, 3) := by decide +kernel
theorem dX1_times_29 : decode cX1_times 29 = .ok (.aload_n 0, 1) := by decide +kernel
theorem dX1_times_30 : decode cX1_times 30 = .ok (.aload_n 0, 1) := by decide +kernel
theorem dX1_times_31 : decode cX1_times 31 = .ok (.getfield 33, 3) := by decide +kernel
theorem dX1_times_34 : decode cX1_times 34 = .ok (.aload_n 0, 1) := by decide +kernel
theorem dX1_times_35 : decode cX1_times 35 = .ok (.getfield 33, 3) := by decide +kernel
theorem dX1_times_38 : decode cX1_times 38 = .ok (.aload_n 0, 1) := by decide +kernel
theorem dX1_times_39 : decode cX1_times 39 = .ok (.getfield 33, 3) := by decide +kernel
theorem dX1_times_42 : decode cX1_times 42 = .ok (.invokevirtual 56, 3) := by decide +kernel
theorem dX1_times_45 : decode cX1_times 45 = .ok (.aload_n 2, 1) := by decide +kernel
theorem dX1_times_46 : decode cX1_times 46 = .ok (.iload_n 3, 1) := by decide +kernel
theorem dX1_times_47 : decode cX1_times 47 = .ok (.iconst 4, 1) := by decide +kernel
theorem dX1_times_48 : decode cX1_times 48 = .ok (.ishr, 1) := by decide +kernel
theorem dX1_times_49 : decode cX1_times 49 = .ok (.iaload, 1) := by decide +kernel
theorem dX1_times_50 : decode cX1_times 50 = .ok (.iload_n 3, 1) := by decide +kernel
theorem dX1_times_51 : decode cX1_times 51 = .ok (.bipush 15, 2) := by decide +kernel
theorem dX1_times_53 : decode cX1_times 53 = .ok (.iand, 1) := by decide +kernel
theorem dX1_times_54 : decode cX1_times 54 = .ok (.ishr, 1) := by decide +kernel
theorem dX1_times_55 : decode cX1_times 55 = .ok (.iconst 1, 1) := by decide +kernel
theorem dX1_times_56 : decode cX1_times 56 = .ok (.iand, 1) := by decide +kernel
theorem dX1_times_57 : decode cX1_times 57 = .ok (.ifCond .eq 16, 3) := by decide +kernel
theorem dX1_times_60 : decode cX1_times 60 = .ok (.aload_n 0, 1) := by decide +kernel
theorem dX1_times_61 : decode cX1_times 61 = .ok (.aload_n 0, 1) := by decide +kernel
theorem dX1_times_62 : decode cX1_times 62 = .ok (.getfield 33, 3) := by decide +kernel
theorem dX1_times_65 : decode cX1_times 65 = .ok (.aload_n 0, 1) := by decide +kernel
theorem dX1_times_66 : decode cX1_times 66 = .ok (.getfield 33, 3) := by decide +kernel
theorem dX1_times_69 : decode cX1_times 69 = .ok (.aload_n 1, 1) := by decide +kernel
theorem dX1_times_70 : decode cX1_times 70 = .ok (.invokevirtual 56, 3) := by decide +kernel
theorem dX1_times_73 : decode cX1_times 73 = .ok (.iinc 3 (-1), 3) := by decide +kernel
theorem dX1_times_76 : decode cX1_times 76 = .ok (.goto (-51), 3) := by decide +kernel
theorem dX1_times_79 : decode cX1_times 79 = .ok (.return_, 1) := by decide +kernel
theorem dX1_square_0 : decode cX1_square 0 = .ok (.aload_n 0, 1) := by decide +kernel
theorem dX1_square_1 : decode cX1_square 1 = .ok (.aload_n 0, 1) := by decide +kernel
theorem dX1_square_2 : decode cX1_square 2 = .ok (.getfield 27, 3) := by decide +kernel
theorem dX1_square_5 : decode cX1_square 5 = .ok (.iload_n 2, 1) := by decide +kernel
theorem dX1_square_6 : decode cX1_square 6 = .ok (.invokevirtual 65, 3) := by decide +kernel
theorem dX1_square_9 : decode cX1_square 9 = .ok (.aload_n 0, 1) := by decide +kernel
theorem dX1_square_10 : decode cX1_square 10 = .ok (.aload_n 0, 1) := by decide +kernel
theorem dX1_square_11 : decode cX1_square 11 = .ok (.getfield 27, 3) := by decide +kernel
theorem dX1_square_14 : decode cX1_square 14 = .ok (.aload_n 0, 1) := by decide +kernel
theorem dX1_square_15 : decode cX1_square 15 = .ok (.getfield 27, 3) := by decide +kernel
theorem dX1_square_18 : decode cX1_square 18 = .ok (.invokevirtual 72, 3) := by decide +kernel
theorem dX1_square_21 : decode cX1_square 21 = .ok (.aload_n 0, 1) := by decide +kernel
theorem dX1_square_22 : decode cX1_square 22 = .ok (.iload_n 1, 1) := by decide +kernel
theorem dX1_square_23 : decode cX1_square 23 = .ok (.aload_n 0, 1) := by decide +kernel
theorem dX1_square_24 : decode cX1_square 24 = .ok (.getfield 33, 3) := by decide +kernel
theorem dX1_square_27 : decode cX1_square 27 = .ok (.invokevirtual 61, 3) := by decide +kernel
theorem dX1_square_30 : decode cX1_square 30 = .ok (.return_, 1) := by decide +kernel
theorem dX1_squares_0 : decode cX1_squares 0 = .ok (.aload_n 0, 1) := by decide +kernel
theorem dX1_squares_1 : decode cX1_squares 1 = .ok (.aload_n 0, 1) := by decide +kernel
theorem dX1_squares_2 : decode cX1_squares 2 = .ok (.getfield 27, 3) := by decide +kernel
theorem dX1_squares_5 : decode cX1_squares 5 = .ok (.iload_n 2, 1) := by decide +kernel
theorem dX1_squares_6 : decode cX1_squares 6 = .ok (.invokevirtual 65, 3) := by decide +kernel
theorem dX1_squares_9 : decode cX1_squares 9 = .ok (.iconst 0, 1) := by decide +kernel
theorem dX1_squares_10 : decode cX1_squares 10 = .ok (.istore 4, 2) := by decide +kernel
theorem dX1_squares_12 : decode cX1_squares 12 = .ok (.iload 4, 2) := by decide +kernel
theorem dX1_squares_14 : decode cX1_squares 14 = .ok (.iload_n 3, 1) := by decide +kernel
theorem dX1_squares_15 : decode cX1_squares 15 = .ok (.bipush 15, 2) := by decide +kernel
theorem dX1_squares_17 : decode cX1_squares 17 = .ok (.iand, 1) := by decide +kernel
theorem dX1_squares_18 : decode cX1_squares 18 = .ok (.if_icmp .gt 33, 3) := by decide +kernel
theorem dX1_squares_21 : decode cX1_squares 21 = .ok (.aload_n 0, 1) := by decide +kernel
theorem dX1_squares_22 : decode cX1_squares 22 = .ok (.aload_n 0, 1) := by decide +kernel
theorem dX1_squares_23 : decode cX1_squares 23 = .ok (.getfield 27, 3) := by decide +kernel
theorem dX1_squares_26 : decode cX1_squares 26 = .ok (.aload_n 0, 1) := by decide +kernel
theorem dX1_squares_27 : decode cX1_squares 27 = .ok (.getfield 27, 3) := by decide +kernel
theorem dX1_squares_30 : decode cX1_squares 30 = .ok (.invokevirtual 72, 3) := by decide +kernel
theorem dX1_squares_33 : decode cX1_squares 33 = .ok (.aload_n 0, 1) := by decide +kernel
theorem dX1_squares_34 : decode cX1_squares 34 = .ok (.aload_n 0, 1) := by decide +kernel
theorem dX1_squares_35 : decode cX1_squares 35 = .ok (.getfield 27, 3) := by decide +kernel
theorem dX1_squares_38 : decode cX1_squares 38 = .ok (.aload_n 0, 1) := by decide +kernel
theorem dX1_squares_39 : decode cX1_squares 39 = .ok (.getfield 33, 3) := by decide +kernel
theorem dX1_squares_42 : decode cX1_squares 42 = .ok (.invokevirtual 75, 3) := by decide +kernel
theorem dX1_squares_45 : decode cX1_squares 45 = .ok (.iinc 4 1, 3) := by decide +kernel
theorem dX1_squares_48 : decode cX1_squares 48 = .ok (.goto (-36), 3) := by decide +kernel
theorem dX1_squares_51 : decode cX1_squares 51 = .ok (.aload_n 0, 1) := by decide +kernel
theorem dX1_squares_52 : decode cX1_squares 52 = .ok (.iload_n 1, 1) := by decide +kernel
theorem dX1_squares_53 : decode cX1_squares 53 = .ok (.aload_n 0, 1) := by decide +kernel
theorem dX1_squares_54 : decode cX1_squares 54 = .ok (.getfield 27, 3) := by decide +kernel
theorem dX1_squares_57 : decode cX1_squares 57 = .ok (.invokevirtual 61, 3) := by decide +kernel
theorem dX1_squares_60 : decode cX1_squares 60 = .ok (.return_, 1) := by decide +kernel
theorem dX1_copy_0 : decode cX1_copy 0 = .ok (.iconst 0, 1) := by decide +kernel
theorem dX1_copy_1 : decode cX1_copy 1 = .ok (.istore_n 3, 1) := by decide +kernel
theorem dX1_copy_2 : decode cX1_copy 2 = .ok (.iload_n 3, 1) := by decide +kernel
theorem dX1_copy_3 : decode cX1_copy 3 = .ok (.bipush 24, 2) := by decide +kernel
theorem dX1_copy_5 : decode cX1_copy 5 = .ok (.if_icmp .ge 15, 3) := by decide +kernel
theorem dX1_copy_8 : decode cX1_copy 8 = .ok (.aload_n 1, 1) := by decide +kernel
theorem dX1_copy_9 : decode cX1_copy 9 = .ok (.iload_n 3, 1) := by decide +kernel
theorem dX1_copy_10 : decode cX1_copy 10 = .ok (.aload_n 2, 1) := by decide +kernel
theorem dX1_copy_11 : decode cX1_copy 11 = .ok (.iload_n 3, 1) := by decide +kernel
theorem dX1_copy_12 : decode cX1_copy 12 = .ok (.iaload, 1) := by decide +kernel
theorem dX1_copy_13 : decode cX1_copy 13 = .ok (.iastore, 1) := by decide +kernel
theorem dX1_copy_14 : decode cX1_copy 14 = .ok (.iinc 3 1, 3) := by decide +kernel
theorem dX1_copy_17 : decode cX1_copy 17 = .ok (.goto (-15), 3) := by decide +kernel
theorem dX1_copy_20 : decode cX1_copy 20 = .ok (.return_, 1) := by decide +kernel
theorem dX1_twice_0 : decode cX1_twice 0 = .ok (.aload_n 0, 1) := by decide +kernel
theorem dX1_twice_1 : decode cX1_twice 1 = .ok (.aload_n 0, 1) := by decide +kernel
theorem dX1_twice_2 : decode cX1_twice 2 = .ok (.getfield 27, 3) := by decide +kernel
theorem dX1_twice_5 : decode cX1_twice 5 = .ok (.iload_n 2, 1) := by decide +kernel
theorem dX1_twice_6 : decode cX1_twice 6 = .ok (.invokevirtual 65, 3) := by decide +kernel
theorem dX1_twice_9 : decode cX1_twice 9 = .ok (.aload_n 0, 1) := by decide +kernel
theorem dX1_twice_10 : decode cX1_twice 10 = .ok (.aload_n 0, 1) := by decide +kernel
theorem dX1_twice_11 : decode cX1_twice 11 = .ok (.getfield 27, 3) := by decide +kernel
theorem dX1_twice_14 : decode cX1_twice 14 = .ok (.aload_n 0, 1) := by decide +kernel
theorem dX1_twice_15 : decode cX1_twice 15 = .ok (.getfield 27, 3) := by decide +kernel
theorem dX1_twice_18 : decode cX1_twice 18 = .ok (.aload_n 0, 1) := by decide +kernel
theorem dX1_twice_19 : decode cX1_twice 19 = .ok (.getfield 27, 3) := by decide +kernel
theorem dX1_twice_22 : decode cX1_twice 22 = .ok (.invokevirtual 56, 3) := by decide +kernel
theorem dX1_twice_25 : decode cX1_twice 25 = .ok (.aload_n 0, 1) := by decide +kernel
theorem dX1_twice_26 : decode cX1_twice 26 = .ok (.iload_n 1, 1) := by decide +kernel
theorem dX1_twice_27 : decode cX1_twice 27 = .ok (.aload_n 0, 1) := by decide +kernel
theorem dX1_twice_28 : decode cX1_twice 28 = .ok (.getfield 27, 3) := by decide +kernel
theorem dX1_twice_31 : decode cX1_twice 31 = .ok (.invokevirtual 61, 3) := by decide +kernel
theorem dX1_twice_34 : decode cX1_twice 34 = .ok (.return_, 1) := by decide +kernel
theorem dX1_halve_0 : decode cX1_halve 0 = .ok (.aload_n 0, 1) := by decide +kernel
theorem dX1_halve_1 : decode cX1_halve 1 = .ok (.aload_n 0, 1) := by decide +kernel
theorem dX1_halve_2 : decode cX1_halve 2 = .ok (.getfield 27, 3) := by decide +kernel
theorem dX1_halve_5 : decode cX1_halve 5 = .ok (.iload_n 2, 1) := by decide +kernel
theorem dX1_halve_6 : decode cX1_halve 6 = .ok (.invokevirtual 65, 3) := by decide +kernel
theorem dX1_halve_9 : decode cX1_halve 9 = .ok (.iconst 0, 1) := by decide +kernel
theorem dX1_halve_10 : decode cX1_halve 10 = .ok (.istore_n 3, 1) := by decide +kernel
theorem dX1_halve_11 : decode cX1_halve 11 = .ok (.aload_n 0, 1) := by decide +kernel
theorem dX1_halve_12 : decode cX1_halve 12 = .ok (.getfield 27, 3) := by decide +kernel
theorem dX1_halve_15 : decode cX1_halve 15 = .ok (.iconst 0, 1) := by decide +kernel
theorem dX1_halve_16 : decode cX1_halve 16 = .ok (.iaload, 1) := by decide +kernel
theorem dX1_halve_17 : decode cX1_halve 17 = .ok (.iconst 1, 1) := by decide +kernel
theorem dX1_halve_18 : decode cX1_halve 18 = .ok (.iand, 1) := by decide +kernel
theorem dX1_halve_19 : decode cX1_halve 19 = .ok (.ifCond .eq 7, 3) := by decide +kernel
theorem dX1_halve_22 : decode cX1_halve 22 = .ok (.iconst 1, 1) := by decide +kernel
theorem dX1_halve_23 : decode cX1_halve 23 = .ok (.goto 4, 3) := by decide +kernel
theorem dX1_halve_26 : decode cX1_halve 26 = .ok (.iconst 0, 1) := by decide +kernel
theorem dX1_halve_27 : decode cX1_halve 27 = .ok (.istore 4, 2) := by decide +kernel
theorem dX1_halve_29 : decode cX1_halve 29 = .ok (.iconst 0, 1) := by decide +kernel
theorem dX1_halve_30 : decode cX1_halve 30 = .ok (.istore 5, 2) := by decide +kernel
theorem dX1_halve_32 : decode cX1_halve 32 = .ok (.iload 5, 2) := by decide +kernel
theorem dX1_halve_34 : decode cX1_halve 34 = .ok (.bipush 24, 2) := by decide +kernel
theorem dX1_halve_36 : decode cX1_halve 36 = .ok (.if_icmp .ge 55, 3) := by decide +kernel
theorem dX1_halve_39 : decode cX1_halve 39 = .ok (.aload_n 0, 1) := by decide +kernel
theorem dX1_halve_40 : decode cX1_halve 40 = .ok (.getfield 27, 3) := by decide +kernel
theorem dX1_halve_43 : decode cX1_halve 43 = .ok (.iload 5, 2) := by decide +kernel
theorem dX1_halve_45 : decode cX1_halve 45 = .ok (.iaload, 1) := by decide +kernel
theorem dX1_halve_46 : decode cX1_halve 46 = .ok (.iload 4, 2) := by decide +kernel
theorem dX1_halve_48 : decode cX1_halve 48 = .ok (.ifCond .eq 13, 3) := by decide +kernel
theorem dX1_halve_51 : decode cX1_halve 51 = .ok (.aload_n 0, 1) := by decide +kernel
theorem dX1_halve_52 : decode cX1_halve 52 = .ok (.getfield 18, 3) := by decide +kernel
theorem dX1_halve_55 : decode cX1_halve 55 = .ok (.iload 5, 2) := by decide +kernel
theorem dX1_halve_57 : decode cX1_halve 57 = .ok (.iaload, 1) := by decide +kernel
theorem dX1_halve_58 : decode cX1_halve 58 = .ok (.goto 4, 3) := by decide +kernel
theorem dX1_halve_61 : decode cX1_halve 61 = .ok (.iconst 0, 1) := by decide +kernel
theorem dX1_halve_62 : decode cX1_halve 62 = .ok (.iadd, 1) := by decide +kernel
theorem dX1_halve_63 : decode cX1_halve 63 = .ok (.iload_n 3, 1) := by decide +kernel
theorem dX1_halve_64 : decode cX1_halve 64 = .ok (.iadd, 1) := by decide +kernel
theorem dX1_halve_65 : decode cX1_halve 65 = .ok (.istore 6, 2) := by decide +kernel
theorem dX1_halve_67 : decode cX1_halve 67 = .ok (.aload_n 0, 1) := by decide +kernel
theorem dX1_halve_68 : decode cX1_halve 68 = .ok (.getfield 24, 3) := by decide +kernel
theorem dX1_halve_71 : decode cX1_halve 71 = .ok (.iload 5, 2) := by decide +kernel
theorem dX1_halve_73 : decode cX1_halve 73 = .ok (.iload 6, 2) := by decide +kernel
theorem dX1_halve_75 : decode cX1_halve 75 = .ok (.ldc 16, 2) := by decide +kernel
theorem dX1_halve_77 : decode cX1_halve 77 = .ok (.iand, 1) := by decide +kernel
theorem dX1_halve_78 : decode cX1_halve 78 = .ok (.iastore, 1) := by decide +kernel
theorem dX1_halve_79 : decode cX1_halve 79 = .ok (.iload 6, 2) := by decide +kernel
theorem dX1_halve_81 : decode cX1_halve 81 = .ok (.bipush 16, 2) := by decide +kernel
theorem dX1_halve_83 : decode cX1_halve 83 = .ok (.ishr, 1) := by decide +kernel
theorem dX1_halve_84 : decode cX1_halve 84 = .ok (.istore_n 3, 1) := by decide +kernel
theorem dX1_halve_85 : decode cX1_halve 85 = .ok (.iinc 5 1, 3) := by decide +kernel
theorem dX1_halve_88 : decode cX1_halve 88 = .ok (.goto (-56), 3) := by decide +kernel
theorem dX1_halve_91 : decode cX1_halve 91 = .ok (.aload_n 0, 1) := by decide +kernel
theorem dX1_halve_92 : decode cX1_halve 92 = .ok (.getfield 24, 3) := by decide +kernel
theorem dX1_halve_95 : decode cX1_halve 95 = .ok (.bipush 24, 2) := by decide +kernel
theorem dX1_halve_97 : decode cX1_halve 97 = .ok (.iload_n 3, 1) := by decide +kernel
theorem dX1_halve_98 : decode cX1_halve 98 = .ok (.iastore, 1) := by decide +kernel
theorem dX1_halve_99 : decode cX1_halve 99 = .ok (.iconst 0, 1) := by decide +kernel
theorem dX1_halve_100 : decode cX1_halve 100 = .ok (.istore 5, 2) := by decide +kernel
theorem dX1_halve_102 : decode cX1_halve 102 = .ok (.iload 5, 2) := by decide +kernel
theorem dX1_halve_104 : decode cX1_halve 104 = .ok (.bipush 24, 2) := by decide +kernel
theorem dX1_halve_106 : decode cX1_halve 106 = .ok (.if_icmp .ge 40, 3) := by decide +kernel
theorem dX1_halve_109 : decode cX1_halve 109 = .ok (.aload_n 0, 1) := by decide +kernel
theorem dX1_halve_110 : decode cX1_halve 110 = .ok (.getfield 27, 3) := by decide +kernel
theorem dX1_halve_113 : decode cX1_halve 113 = .ok (.iload 5, 2) := by decide +kernel
theorem dX1_halve_115 : decode cX1_halve 115 = .ok (.aload_n 0, 1) := by decide +kernel
theorem dX1_halve_116 : decode cX1_halve 116 = .ok (.getfield 24, 3) := by decide +kernel
theorem dX1_halve_119 : decode cX1_halve 119 = .ok (.iload 5, 2) := by decide +kernel
theorem dX1_halve_121 : decode cX1_halve 121 = .ok (.iaload, 1) := by decide +kernel
theorem dX1_halve_122 : decode cX1_halve 122 = .ok (.iconst 1, 1) := by decide +kernel
theorem dX1_halve_123 : decode cX1_halve 123 = .ok (.ishr, 1) := by decide +kernel
theorem dX1_halve_124 : decode cX1_halve 124 = .ok (.aload_n 0, 1) := by decide +kernel
theorem dX1_halve_125 : decode cX1_halve 125 = .ok (.getfield 24, 3) := by decide +kernel
theorem dX1_halve_128 : decode cX1_halve 128 = .ok (.iload 5, 2) := by decide +kernel
theorem dX1_halve_130 : decode cX1_halve 130 = .ok (.iconst 1, 1) := by decide +kernel
theorem dX1_halve_131 : decode cX1_halve 131 = .ok (.iadd, 1) := by decide +kernel
theorem dX1_halve_132 : decode cX1_halve 132 = .ok (.iaload, 1) := by decide +kernel
theorem dX1_halve_133 : decode cX1_halve 133 = .ok (.iconst 1, 1) := by decide +kernel
theorem dX1_halve_134 : decode cX1_halve 134 = .ok (.iand, 1) := by decide +kernel
theorem dX1_halve_135 : decode cX1_halve 135 = .ok (.bipush 15, 2) := by decide +kernel
theorem dX1_halve_137 : decode cX1_halve 137 = .ok (.ishl, 1) := by decide +kernel
theorem dX1_halve_138 : decode cX1_halve 138 = .ok (.ior, 1) := by decide +kernel
theorem dX1_halve_139 : decode cX1_halve 139 = .ok (.iastore, 1) := by decide +kernel
theorem dX1_halve_140 : decode cX1_halve 140 = .ok (.iinc 5 1, 3) := by decide +kernel
theorem dX1_halve_143 : decode cX1_halve 143 = .ok (.goto (-41), 3) := by decide +kernel
theorem dX1_halve_146 : decode cX1_halve 146 = .ok (.aload_n 0, 1) := by decide +kernel
theorem dX1_halve_147 : decode cX1_halve 147 = .ok (.iload_n 1, 1) := by decide +kernel
theorem dX1_halve_148 : decode cX1_halve 148 = .ok (.aload_n 0, 1) := by decide +kernel
theorem dX1_halve_149 : decode cX1_halve 149 = .ok (.getfield 27, 3) := by decide +kernel
theorem dX1_halve_152 : decode cX1_halve 152 = .ok (.invokevirtual 61, 3) := by decide +kernel
theorem dX1_halve_155 : decode cX1_halve 155 = .ok (.return_, 1) := by decide +kernel
theorem dX1_negate_0 : decode cX1_negate 0 = .ok (.aload_n 0, 1) := by decide +kernel
theorem dX1_negate_1 : decode cX1_negate 1 = .ok (.aload_n 0, 1) := by decide +kernel
theorem dX1_negate_2 : decode cX1_negate 2 = .ok (.getfield 27, 3) := by decide +kernel
theorem dX1_negate_5 : decode cX1_negate 5 = .ok (.iload_n 2, 1) := by decide +kernel
theorem dX1_negate_6 : decode cX1_negate 6 = .ok (.invokevirtual 65, 3) := by decide +kernel
theorem dX1_negate_9 : decode cX1_negate 9 = .ok (.aload_n 0, 1) := by decide +kernel
theorem dX1_negate_10 : decode cX1_negate 10 = .ok (.aload_n 0, 1) := by decide +kernel
theorem dX1_negate_11 : decode cX1_negate 11 = .ok (.getfield 27, 3) := by decide +kernel
theorem dX1_negate_14 : decode cX1_negate 14 = .ok (.aload_n 0, 1) := by decide +kernel
theorem dX1_negate_15 : decode cX1_negate 15 = .ok (.getfield 27, 3) := by decide +kernel
theorem dX1_negate_18 : decode cX1_negate 18 = .ok (.invokevirtual 69, 3) := by decide +kernel
theorem dX1_negate_21 : decode cX1_negate 21 = .ok (.aload_n 0, 1) := by decide +kernel
theorem dX1_negate_22 : decode cX1_negate 22 = .ok (.iload_n 1, 1) := by decide +kernel
theorem dX1_negate_23 : decode cX1_negate 23 = .ok (.aload_n 0, 1) := by decide +kernel
theorem dX1_negate_24 : decode cX1_negate 24 = .ok (.getfield 27, 3) := by decide +kernel
theorem dX1_negate_27 : decode cX1_negate 27 = .ok (.invokevirtual 61, 3) := by decide +kernel
theorem dX1_negate_30 : decode cX1_negate 30 = .ok (.return_, 1) := by decide +kernel
theorem dX1_invert_0 : decode cX1_invert 0 = .ok (.aload_n 0, 1) := by decide +kernel
theorem dX1_invert_1 : decode cX1_invert 1 = .ok (.aload_n 0, 1) := by decide +kernel
theorem dX1_invert_2 : decode cX1_invert 2 = .ok (.getfield 30, 3) := by decide +kernel
theorem dX1_invert_5 : decode cX1_invert 5 = .ok (.iload_n 2, 1) := by decide +kernel
theorem dX1_invert_6 : decode cX1_invert 6 = .ok (.invokevirtual 65, 3) := by decide +kernel
theorem dX1_invert_9 : decode cX1_invert 9 = .ok (.aload_n 0, 1) := by decide +kernel
theorem dX1_invert_10 : decode cX1_invert 10 = .ok (.aload_n 0, 1) := by decide +kernel
theorem dX1_invert_11 : decode cX1_invert 11 = .ok (.getfield 30, 3) := by decide +kernel
end
section
set_option maxRecDepth 100000
theorem dX1_invert_14 : decode cX1_invert 14 = .ok (.invokevirtual 52, 3) := by decide +kernel
theorem dX1_invert_17 : decode cX1_invert 17 = .ok (.ifCond .eq 5, 3) := by decide +kernel
theorem dX1_invert_20 : decode cX1_invert 20 = .ok (.iconst 0, 1) := by decide +kernel
theorem dX1_invert_21 : decode cX1_invert 21 = .ok (.ireturn, 1) := by decide +kernel
theorem dX1_invert_22 : decode cX1_invert 22 = .ok (.iconst 0, 1) := by decide +kernel
theorem dX1_invert_23 : decode cX1_invert 23 = .ok (.istore_n 3, 1) := by decide +kernel
theorem dX1_invert_24 : decode cX1_invert 24 = .ok (.iload_n 3, 1) := by decide +kernel
theorem dX1_invert_25 : decode cX1_invert 25 = .ok (.bipush 25, 2) := by decide +kernel
theorem dX1_invert_27 : decode cX1_invert 27 = .ok (.if_icmp .ge 67, 3) := by decide +kernel
theorem dX1_invert_30 : decode cX1_invert 30 = .ok (.aload_n 0, 1) := by decide +kernel
theorem dX1_invert_31 : decode cX1_invert 31 = .ok (.getfield 36, 3) := by decide +kernel
theorem dX1_invert_34 : decode cX1_invert 34 = .ok (.iload_n 3, 1) := by decide +kernel
theorem dX1_invert_35 : decode cX1_invert 35 = .ok (.iload_n 3, 1) := by decide +kernel
theorem dX1_invert_36 : decode cX1_invert 36 = .ok (.bipush 24, 2) := by decide +kernel
theorem dX1_invert_38 : decode cX1_invert 38 = .ok (.if_icmp .ge 12, 3) := by decide +kernel
theorem dX1_invert_41 : decode cX1_invert 41 = .ok (.aload_n 0, 1) := by decide +kernel
theorem dX1_invert_42 : decode cX1_invert 42 = .ok (.getfield 30, 3) := by decide +kernel
theorem dX1_invert_45 : decode cX1_invert 45 = .ok (.iload_n 3, 1) := by decide +kernel
theorem dX1_invert_46 : decode cX1_invert 46 = .ok (.iaload, 1) := by decide +kernel
theorem dX1_invert_47 : decode cX1_invert 47 = .ok (.goto 4, 3) := by decide +kernel
theorem dX1_invert_50 : decode cX1_invert 50 = .ok (.iconst 0, 1) := by decide +kernel
theorem dX1_invert_51 : decode cX1_invert 51 = .ok (.iastore, 1) := by decide +kernel
theorem dX1_invert_52 : decode cX1_invert 52 = .ok (.aload_n 0, 1) := by decide +kernel
theorem dX1_invert_53 : decode cX1_invert 53 = .ok (.getfield 39, 3) := by decide +kernel
theorem dX1_invert_56 : decode cX1_invert 56 = .ok (.iload_n 3, 1) := by decide +kernel
theorem dX1_invert_57 : decode cX1_invert 57 = .ok (.iload_n 3, 1) := by decide +kernel
theorem dX1_invert_58 : decode cX1_invert 58 = .ok (.bipush 24, 2) := by decide +kernel
theorem dX1_invert_60 : decode cX1_invert 60 = .ok (.if_icmp .ge 12, 3) := by decide +kernel
theorem dX1_invert_63 : decode cX1_invert 63 = .ok (.aload_n 0, 1) := by decide +kernel
theorem dX1_invert_64 : decode cX1_invert 64 = .ok (.getfield 18, 3) := by decide +kernel
theorem dX1_invert_67 : decode cX1_invert 67 = .ok (.iload_n 3, 1) := by decide +kernel
theorem dX1_invert_68 : decode cX1_invert 68 = .ok (.iaload, 1) := by decide +kernel
theorem dX1_invert_69 : decode cX1_invert 69 = .ok (.goto 4, 3) := by decide +kernel
theorem dX1_invert_72 : decode cX1_invert 72 = .ok (.iconst 0, 1) := by decide +kernel
theorem dX1_invert_73 : decode cX1_invert 73 = .ok (.iastore, 1) := by decide +kernel
theorem dX1_invert_74 : decode cX1_invert 74 = .ok (.aload_n 0, 1) := by decide +kernel
theorem dX1_invert_75 : decode cX1_invert 75 = .ok (.getfield 42, 3) := by decide +kernel
theorem dX1_invert_78 : decode cX1_invert 78 = .ok (.iload_n 3, 1) := by decide +kernel
theorem dX1_invert_79 : decode cX1_invert 79 = .ok (.iconst 0, 1) := by decide +kernel
theorem dX1_invert_80 : decode cX1_invert 80 = .ok (.iastore, 1) := by decide +kernel
theorem dX1_invert_81 : decode cX1_invert 81 = .ok (.aload_n 0, 1) := by decide +kernel
theorem dX1_invert_82 : decode cX1_invert 82 = .ok (.getfield 45, 3) := by decide +kernel
theorem dX1_invert_85 : decode cX1_invert 85 = .ok (.iload_n 3, 1) := by decide +kernel
theorem dX1_invert_86 : decode cX1_invert 86 = .ok (.iconst 0, 1) := by decide +kernel
theorem dX1_invert_87 : decode cX1_invert 87 = .ok (.iastore, 1) := by decide +kernel
theorem dX1_invert_88 : decode cX1_invert 88 = .ok (.iinc 3 1, 3) := by decide +kernel
theorem dX1_invert_91 : decode cX1_invert 91 = .ok (.goto (-67), 3) := by decide +kernel
theorem dX1_invert_94 : decode cX1_invert 94 = .ok (.aload_n 0, 1) := by decide +kernel
theorem dX1_invert_95 : decode cX1_invert 95 = .ok (.getfield 42, 3) := by decide +kernel
theorem dX1_invert_98 : decode cX1_invert 98 = .ok (.iconst 0, 1) := by decide +kernel
theorem dX1_invert_99 : decode cX1_invert 99 = .ok (.iconst 1, 1) := by decide +kernel
theorem dX1_invert_100 : decode cX1_invert 100 = .ok (.iastore, 1) := by decide +kernel
theorem dX1_invert_101 : decode cX1_invert 101 = .ok (.aload_n 0, 1) := by decide +kernel
theorem dX1_invert_102 : decode cX1_invert 102 = .ok (.getfield 36, 3) := by decide +kernel
theorem dX1_invert_105 : decode cX1_invert 105 = .ok (.invokestatic 78, 3) := by decide +kernel
theorem dX1_invert_108 : decode cX1_invert 108 = .ok (.ifCond .ne 205, 3) := by decide +kernel
theorem dX1_invert_111 : decode cX1_invert 111 = .ok (.aload_n 0, 1) := by decide +kernel
theorem dX1_invert_112 : decode cX1_invert 112 = .ok (.getfield 36, 3) := by decide +kernel
theorem dX1_invert_115 : decode cX1_invert 115 = .ok (.iconst 0, 1) := by decide +kernel
theorem dX1_invert_116 : decode cX1_invert 116 = .ok (.iaload, 1) := by decide +kernel
theorem dX1_invert_117 : decode cX1_invert 117 = .ok (.iconst 1, 1) := by decide +kernel
theorem dX1_invert_118 : decode cX1_invert 118 = .ok (.iand, 1) := by decide +kernel
theorem dX1_invert_119 : decode cX1_invert 119 = .ok (.ifCond .ne 39, 3) := by decide +kernel
theorem dX1_invert_122 : decode cX1_invert 122 = .ok (.aload_n 0, 1) := by decide +kernel
theorem dX1_invert_123 : decode cX1_invert 123 = .ok (.getfield 36, 3) := by decide +kernel
theorem dX1_invert_126 : decode cX1_invert 126 = .ok (.invokestatic 81, 3) := by decide +kernel
theorem dX1_invert_129 : decode cX1_invert 129 = .ok (.aload_n 0, 1) := by decide +kernel
theorem dX1_invert_130 : decode cX1_invert 130 = .ok (.getfield 42, 3) := by decide +kernel
theorem dX1_invert_133 : decode cX1_invert 133 = .ok (.iconst 0, 1) := by decide +kernel
theorem dX1_invert_134 : decode cX1_invert 134 = .ok (.iaload, 1) := by decide +kernel
theorem dX1_invert_135 : decode cX1_invert 135 = .ok (.iconst 1, 1) := by decide +kernel
theorem dX1_invert_136 : decode cX1_invert 136 = .ok (.iand, 1) := by decide +kernel
theorem dX1_invert_137 : decode cX1_invert 137 = .ok (.ifCond .eq 11, 3) := by decide +kernel
theorem dX1_invert_140 : decode cX1_invert 140 = .ok (.aload_n 0, 1) := by decide +kernel
theorem dX1_invert_141 : decode cX1_invert 141 = .ok (.aload_n 0, 1) := by decide +kernel
theorem dX1_invert_142 : decode cX1_invert 142 = .ok (.getfield 42, 3) := by decide +kernel
theorem dX1_invert_145 : decode cX1_invert 145 = .ok (.invokevirtual 85, 3) := by decide +kernel
theorem dX1_invert_148 : decode cX1_invert 148 = .ok (.aload_n 0, 1) := by decide +kernel
theorem dX1_invert_149 : decode cX1_invert 149 = .ok (.getfield 42, 3) := by decide +kernel
theorem dX1_invert_152 : decode cX1_invert 152 = .ok (.invokestatic 81, 3) := by decide +kernel
theorem dX1_invert_155 : decode cX1_invert 155 = .ok (.goto (-44), 3) := by decide +kernel
theorem dX1_invert_158 : decode cX1_invert 158 = .ok (.aload_n 0, 1) := by decide +kernel
theorem dX1_invert_159 : decode cX1_invert 159 = .ok (.getfield 39, 3) := by decide +kernel
theorem dX1_invert_162 : decode cX1_invert 162 = .ok (.iconst 0, 1) := by decide +kernel
theorem dX1_invert_163 : decode cX1_invert 163 = .ok (.iaload, 1) := by decide +kernel
theorem dX1_invert_164 : decode cX1_invert 164 = .ok (.iconst 1, 1) := by decide +kernel
theorem dX1_invert_165 : decode cX1_invert 165 = .ok (.iand, 1) := by decide +kernel
theorem dX1_invert_166 : decode cX1_invert 166 = .ok (.ifCond .ne 39, 3) := by decide +kernel
theorem dX1_invert_169 : decode cX1_invert 169 = .ok (.aload_n 0, 1) := by decide +kernel
theorem dX1_invert_170 : decode cX1_invert 170 = .ok (.getfield 39, 3) := by decide +kernel
theorem dX1_invert_173 : decode cX1_invert 173 = .ok (.invokestatic 81, 3) := by decide +kernel
theorem dX1_invert_176 : decode cX1_invert 176 = .ok (.aload_n 0, 1) := by decide +kernel
theorem dX1_invert_177 : decode cX1_invert 177 = .ok (.getfield 45, 3) := by decide +kernel
theorem dX1_invert_180 : decode cX1_invert 180 = .ok (.iconst 0, 1) := by decide +kernel
theorem dX1_invert_181 : decode cX1_invert 181 = .ok (.iaload, 1) := by decide +kernel
theorem dX1_invert_182 : decode cX1_invert 182 = .ok (.iconst 1, 1) := by decide +kernel
theorem dX1_invert_183 : decode cX1_invert 183 = .ok (.iand, 1) := by decide +kernel
theorem dX1_invert_184 : decode cX1_invert 184 = .ok (.ifCond .eq 11, 3) := by decide +kernel
theorem dX1_invert_187 : decode cX1_invert 187 = .ok (.aload_n 0, 1) := by decide +kernel
theorem dX1_invert_188 : decode cX1_invert 188 = .ok (.aload_n 0, 1) := by decide +kernel
theorem dX1_invert_189 : decode cX1_invert 189 = .ok (.getfield 45, 3) := by decide +kernel
theorem dX1_invert_192 : decode cX1_invert 192 = .ok (.invokevirtual 85, 3) := by decide +kernel
theorem dX1_invert_195 : decode cX1_invert 195 = .ok (.aload_n 0, 1) := by decide +kernel
theorem dX1_invert_196 : decode cX1_invert 196 = .ok (.getfield 45, 3) := by decide +kernel
theorem dX1_invert_199 : decode cX1_invert 199 = .ok (.invokestatic 81, 3) := by decide +kernel
theorem dX1_invert_202 : decode cX1_invert 202 = .ok (.goto (-44), 3) := by decide +kernel
theorem dX1_invert_205 : decode cX1_invert 205 = .ok (.aload_n 0, 1) := by decide +kernel
theorem dX1_invert_206 : decode cX1_invert 206 = .ok (.getfield 36, 3) := by decide +kernel
theorem dX1_invert_209 : decode cX1_invert 209 = .ok (.aload_n 0, 1) := by decide +kernel
theorem dX1_invert_210 : decode cX1_invert 210 = .ok (.getfield 39, 3) := by decide +kernel
theorem dX1_invert_213 : decode cX1_invert 213 = .ok (.invokestatic 88, 3) := by decide +kernel
theorem dX1_invert_216 : decode cX1_invert 216 = .ok (.ifCond .eq 50, 3) := by decide +kernel
theorem dX1_invert_219 : decode cX1_invert 219 = .ok (.aload_n 0, 1) := by decide +kernel
theorem dX1_invert_220 : decode cX1_invert 220 = .ok (.getfield 39, 3) := by decide +kernel
theorem dX1_invert_223 : decode cX1_invert 223 = .ok (.aload_n 0, 1) := by decide +kernel
theorem dX1_invert_224 : decode cX1_invert 224 = .ok (.getfield 36, 3) := by decide +kernel
theorem dX1_invert_227 : decode cX1_invert 227 = .ok (.invokestatic 92, 3) := by decide +kernel
theorem dX1_invert_230 : decode cX1_invert 230 = .ok (.aload_n 0, 1) := by decide +kernel
theorem dX1_invert_231 : decode cX1_invert 231 = .ok (.getfield 45, 3) := by decide +kernel
theorem dX1_invert_234 : decode cX1_invert 234 = .ok (.aload_n 0, 1) := by decide +kernel
theorem dX1_invert_235 : decode cX1_invert 235 = .ok (.getfield 42, 3) := by decide +kernel
theorem dX1_invert_238 : decode cX1_invert 238 = .ok (.invokestatic 88, 3) := by decide +kernel
theorem dX1_invert_241 : decode cX1_invert 241 = .ok (.ifCond .eq 11, 3) := by decide +kernel
theorem dX1_invert_244 : decode cX1_invert 244 = .ok (.aload_n 0, 1) := by decide +kernel
theorem dX1_invert_245 : decode cX1_invert 245 = .ok (.aload_n 0, 1) := by decide +kernel
theorem dX1_invert_246 : decode cX1_invert 246 = .ok (.getfield 45, 3) := by decide +kernel
theorem dX1_invert_249 : decode cX1_invert 249 = .ok (.invokevirtual 85, 3) := by decide +kernel
theorem dX1_invert_252 : decode cX1_invert 252 = .ok (.aload_n 0, 1) := by decide +kernel
theorem dX1_invert_253 : decode cX1_invert 253 = .ok (.getfield 45, 3) := by decide +kernel
theorem dX1_invert_256 : decode cX1_invert 256 = .ok (.aload_n 0, 1) := by decide +kernel
theorem dX1_invert_257 : decode cX1_invert 257 = .ok (.getfield 42, 3) := by decide +kernel
theorem dX1_invert_260 : decode cX1_invert 260 = .ok (.invokestatic 92, 3) := by decide +kernel
theorem dX1_invert_263 : decode cX1_invert 263 = .ok (.goto (-162), 3) := by decide +kernel
theorem dX1_invert_266 : decode cX1_invert 266 = .ok (.aload_n 0, 1) := by decide +kernel
theorem dX1_invert_267 : decode cX1_invert 267 = .ok (.getfield 36, 3) := by decide +kernel
theorem dX1_invert_270 : decode cX1_invert 270 = .ok (.aload_n 0, 1) := by decide +kernel
theorem dX1_invert_271 : decode cX1_invert 271 = .ok (.getfield 39, 3) := by decide +kernel
theorem dX1_invert_274 : decode cX1_invert 274 = .ok (.invokestatic 92, 3) := by decide +kernel
theorem dX1_invert_277 : decode cX1_invert 277 = .ok (.aload_n 0, 1) := by decide +kernel
theorem dX1_invert_278 : decode cX1_invert 278 = .ok (.getfield 42, 3) := by decide +kernel
theorem dX1_invert_281 : decode cX1_invert 281 = .ok (.aload_n 0, 1) := by decide +kernel
theorem dX1_invert_282 : decode cX1_invert 282 = .ok (.getfield 45, 3) := by decide +kernel
theorem dX1_invert_285 : decode cX1_invert 285 = .ok (.invokestatic 88, 3) := by decide +kernel
theorem dX1_invert_288 : decode cX1_invert 288 = .ok (.ifCond .eq 11, 3) := by decide +kernel
theorem dX1_invert_291 : decode cX1_invert 291 = .ok (.aload_n 0, 1) := by decide +kernel
theorem dX1_invert_292 : decode cX1_invert 292 = .ok (.aload_n 0, 1) := by decide +kernel
theorem dX1_invert_293 : decode cX1_invert 293 = .ok (.getfield 42, 3) := by decide +kernel
theorem dX1_invert_296 : decode cX1_invert 296 = .ok (.invokevirtual 85, 3) := by decide +kernel
theorem dX1_invert_299 : decode cX1_invert 299 = .ok (.aload_n 0, 1) := by decide +kernel
theorem dX1_invert_300 : decode cX1_invert 300 = .ok (.getfield 42, 3) := by decide +kernel
theorem dX1_invert_303 : decode cX1_invert 303 = .ok (.aload_n 0, 1) := by decide +kernel
theorem dX1_invert_304 : decode cX1_invert 304 = .ok (.getfield 45, 3) := by decide +kernel
theorem dX1_invert_307 : decode cX1_invert 307 = .ok (.invokestatic 92, 3) := by decide +kernel
theorem dX1_invert_310 : decode cX1_invert 310 = .ok (.goto (-209), 3) := by decide +kernel
theorem dX1_invert_313 : decode cX1_invert 313 = .ok (.iconst 0, 1) := by decide +kernel
theorem dX1_invert_314 : decode cX1_invert 314 = .ok (.istore_n 3, 1) := by decide +kernel
theorem dX1_invert_315 : decode cX1_invert 315 = .ok (.iload_n 3, 1) := by decide +kernel
theorem dX1_invert_316 : decode cX1_invert 316 = .ok (.bipush 24, 2) := by decide +kernel
theorem dX1_invert_318 : decode cX1_invert 318 = .ok (.if_icmp .ge 21, 3) := by decide +kernel
theorem dX1_invert_321 : decode cX1_invert 321 = .ok (.aload_n 0, 1) := by decide +kernel
theorem dX1_invert_322 : decode cX1_invert 322 = .ok (.getfield 27, 3) := by decide +kernel
theorem dX1_invert_325 : decode cX1_invert 325 = .ok (.iload_n 3, 1) := by decide +kernel
theorem dX1_invert_326 : decode cX1_invert 326 = .ok (.aload_n 0, 1) := by decide +kernel
theorem dX1_invert_327 : decode cX1_invert 327 = .ok (.getfield 45, 3) := by decide +kernel
theorem dX1_invert_330 : decode cX1_invert 330 = .ok (.iload_n 3, 1) := by decide +kernel
theorem dX1_invert_331 : decode cX1_invert 331 = .ok (.iaload, 1) := by decide +kernel
theorem dX1_invert_332 : decode cX1_invert 332 = .ok (.iastore, 1) := by decide +kernel
theorem dX1_invert_333 : decode cX1_invert 333 = .ok (.iinc 3 1, 3) := by decide +kernel
theorem dX1_invert_336 : decode cX1_invert 336 = .ok (.goto (-21), 3) := by decide +kernel
theorem dX1_invert_339 : decode cX1_invert 339 = .ok (.aload_n 0, 1) := by decide +kernel
theorem dX1_invert_340 : decode cX1_invert 340 = .ok (.iload_n 1, 1) := by decide +kernel
theorem dX1_invert_341 : decode cX1_invert 341 = .ok (.aload_n 0, 1) := by decide +kernel
theorem dX1_invert_342 : decode cX1_invert 342 = .ok (.getfield 27, 3) := by decide +kernel
theorem dX1_invert_345 : decode cX1_invert 345 = .ok (.invokevirtual 61, 3) := by decide +kernel
theorem dX1_invert_348 : decode cX1_invert 348 = .ok (.iconst 1, 1) := by decide +kernel
theorem dX1_invert_349 : decode cX1_invert 349 = .ok (.ireturn, 1) := by decide +kernel
theorem dX1_nought_0 : decode cX1_nought 0 = .ok (.iconst 0, 1) := by decide +kernel
theorem dX1_nought_1 : decode cX1_nought 1 = .ok (.istore_n 1, 1) := by decide +kernel
theorem dX1_nought_2 : decode cX1_nought 2 = .ok (.iconst 0, 1) := by decide +kernel
theorem dX1_nought_3 : decode cX1_nought 3 = .ok (.istore_n 2, 1) := by decide +kernel
theorem dX1_nought_4 : decode cX1_nought 4 = .ok (.iload_n 2, 1) := by decide +kernel
theorem dX1_nought_5 : decode cX1_nought 5 = .ok (.bipush 25, 2) := by decide +kernel
theorem dX1_nought_7 : decode cX1_nought 7 = .ok (.if_icmp .ge 15, 3) := by decide +kernel
theorem dX1_nought_10 : decode cX1_nought 10 = .ok (.iload_n 1, 1) := by decide +kernel
theorem dX1_nought_11 : decode cX1_nought 11 = .ok (.aload_n 0, 1) := by decide +kernel
theorem dX1_nought_12 : decode cX1_nought 12 = .ok (.iload_n 2, 1) := by decide +kernel
theorem dX1_nought_13 : decode cX1_nought 13 = .ok (.iaload, 1) := by decide +kernel
theorem dX1_nought_14 : decode cX1_nought 14 = .ok (.ior, 1) := by decide +kernel
theorem dX1_nought_15 : decode cX1_nought 15 = .ok (.istore_n 1, 1) := by decide +kernel
theorem dX1_nought_16 : decode cX1_nought 16 = .ok (.iinc 2 1, 3) := by decide +kernel
theorem dX1_nought_19 : decode cX1_nought 19 = .ok (.goto (-15), 3) := by decide +kernel
theorem dX1_nought_22 : decode cX1_nought 22 = .ok (.iload_n 1, 1) := by decide +kernel
theorem dX1_nought_23 : decode cX1_nought 23 = .ok (.ifCond .ne 7, 3) := by decide +kernel
theorem dX1_nought_26 : decode cX1_nought 26 = .ok (.iconst 1, 1) := by decide +kernel
theorem dX1_nought_27 : decode cX1_nought 27 = .ok (.goto 4, 3) := by decide +kernel
theorem dX1_nought_30 : decode cX1_nought 30 = .ok (.iconst 0, 1) := by decide +kernel
theorem dX1_nought_31 : decode cX1_nought 31 = .ok (.ireturn, 1) := by decide +kernel
theorem dX1_half_0 : decode cX1_half 0 = .ok (.iconst 0, 1) := by decide +kernel
theorem dX1_half_1 : decode cX1_half 1 = .ok (.istore_n 1, 1) := by decide +kernel
theorem dX1_half_2 : decode cX1_half 2 = .ok (.iload_n 1, 1) := by decide +kernel
theorem dX1_half_3 : decode cX1_half 3 = .ok (.bipush 24, 2) := by decide +kernel
theorem dX1_half_5 : decode cX1_half 5 = .ok (.if_icmp .ge 28, 3) := by decide +kernel
theorem dX1_half_8 : decode cX1_half 8 = .ok (.aload_n 0, 1) := by decide +kernel
theorem dX1_half_9 : decode cX1_half 9 = .ok (.iload_n 1, 1) := by decide +kernel
theorem dX1_half_10 : decode cX1_half 10 = .ok (.aload_n 0, 1) := by decide +kernel
theorem dX1_half_11 : decode cX1_half 11 = .ok (.iload_n 1, 1) := by decide +kernel
theorem dX1_half_12 : decode cX1_half 12 = .ok (.iaload, 1) := by decide +kernel
theorem dX1_half_13 : decode cX1_half 13 = .ok (.iconst 1, 1) := by decide +kernel
theorem dX1_half_14 : decode cX1_half 14 = .ok (.ishr, 1) := by decide +kernel
theorem dX1_half_15 : decode cX1_half 15 = .ok (.aload_n 0, 1) := by decide +kernel
theorem dX1_half_16 : decode cX1_half 16 = .ok (.iload_n 1, 1) := by decide +kernel
theorem dX1_half_17 : decode cX1_half 17 = .ok (.iconst 1, 1) := by decide +kernel
theorem dX1_half_18 : decode cX1_half 18 = .ok (.iadd, 1) := by decide +kernel
theorem dX1_half_19 : decode cX1_half 19 = .ok (.iaload, 1) := by decide +kernel
theorem dX1_half_20 : decode cX1_half 20 = .ok (.iconst 1, 1) := by decide +kernel
theorem dX1_half_21 : decode cX1_half 21 = .ok (.iand, 1) := by decide +kernel
theorem dX1_half_22 : decode cX1_half 22 = .ok (.bipush 15, 2) := by decide +kernel
theorem dX1_half_24 : decode cX1_half 24 = .ok (.ishl, 1) := by decide +kernel
theorem dX1_half_25 : decode cX1_half 25 = .ok (.ior, 1) := by decide +kernel
theorem dX1_half_26 : decode cX1_half 26 = .ok (.iastore, 1) := by decide +kernel
theorem dX1_half_27 : decode cX1_half 27 = .ok (.iinc 1 1, 3) := by decide +kernel
theorem dX1_half_30 : decode cX1_half 30 = .ok (.goto (-28), 3) := by decide +kernel
theorem dX1_half_33 : decode cX1_half 33 = .ok (.aload_n 0, 1) := by decide +kernel
theorem dX1_half_34 : decode cX1_half 34 = .ok (.bipush 24, 2) := by decide +kernel
theorem dX1_half_36 : decode cX1_half 36 = .ok (.aload_n 0, 1) := by decide +kernel
theorem dX1_half_37 : decode cX1_half 37 = .ok (.bipush 24, 2) := by decide +kernel
theorem dX1_half_39 : decode cX1_half 39 = .ok (.iaload, 1) := by decide +kernel
theorem dX1_half_40 : decode cX1_half 40 = .ok (.iconst 1, 1) := by decide +kernel
theorem dX1_half_41 : decode cX1_half 41 = .ok (.ishr, 1) := by decide +kernel
theorem dX1_half_42 : decode cX1_half 42 = .ok (.iastore, 1) := by decide +kernel
theorem dX1_half_43 : decode cX1_half 43 = .ok (.return_, 1) := by decide +kernel
theorem dX1_more_0 : decode cX1_more 0 = .ok (.iconst 0, 1) := by decide +kernel
theorem dX1_more_1 : decode cX1_more 1 = .ok (.istore_n 2, 1) := by decide +kernel
theorem dX1_more_2 : decode cX1_more 2 = .ok (.iconst 0, 1) := by decide +kernel
theorem dX1_more_3 : decode cX1_more 3 = .ok (.istore_n 3, 1) := by decide +kernel
theorem dX1_more_4 : decode cX1_more 4 = .ok (.iload_n 3, 1) := by decide +kernel
theorem dX1_more_5 : decode cX1_more 5 = .ok (.bipush 25, 2) := by decide +kernel
theorem dX1_more_7 : decode cX1_more 7 = .ok (.if_icmp .ge 47, 3) := by decide +kernel
theorem dX1_more_10 : decode cX1_more 10 = .ok (.aload_n 1, 1) := by decide +kernel
theorem dX1_more_11 : decode cX1_more 11 = .ok (.iload_n 3, 1) := by decide +kernel
theorem dX1_more_12 : decode cX1_more 12 = .ok (.iaload, 1) := by decide +kernel
theorem dX1_more_13 : decode cX1_more 13 = .ok (.iload_n 3, 1) := by decide +kernel
theorem dX1_more_14 : decode cX1_more 14 = .ok (.bipush 24, 2) := by decide +kernel
theorem dX1_more_16 : decode cX1_more 16 = .ok (.if_icmp .ge 12, 3) := by decide +kernel
theorem dX1_more_19 : decode cX1_more 19 = .ok (.aload_n 0, 1) := by decide +kernel
theorem dX1_more_20 : decode cX1_more 20 = .ok (.getfield 18, 3) := by decide +kernel
theorem dX1_more_23 : decode cX1_more 23 = .ok (.iload_n 3, 1) := by decide +kernel
theorem dX1_more_24 : decode cX1_more 24 = .ok (.iaload, 1) := by decide +kernel
theorem dX1_more_25 : decode cX1_more 25 = .ok (.goto 4, 3) := by decide +kernel
theorem dX1_more_28 : decode cX1_more 28 = .ok (.iconst 0, 1) := by decide +kernel
theorem dX1_more_29 : decode cX1_more 29 = .ok (.iadd, 1) := by decide +kernel
theorem dX1_more_30 : decode cX1_more 30 = .ok (.iload_n 2, 1) := by decide +kernel
theorem dX1_more_31 : decode cX1_more 31 = .ok (.iadd, 1) := by decide +kernel
theorem dX1_more_32 : decode cX1_more 32 = .ok (.istore 4, 2) := by decide +kernel
theorem dX1_more_34 : decode cX1_more 34 = .ok (.aload_n 1, 1) := by decide +kernel
theorem dX1_more_35 : decode cX1_more 35 = .ok (.iload_n 3, 1) := by decide +kernel
theorem dX1_more_36 : decode cX1_more 36 = .ok (.iload 4, 2) := by decide +kernel
theorem dX1_more_38 : decode cX1_more 38 = .ok (.ldc 16, 2) := by decide +kernel
theorem dX1_more_40 : decode cX1_more 40 = .ok (.iand, 1) := by decide +kernel
theorem dX1_more_41 : decode cX1_more 41 = .ok (.iastore, 1) := by decide +kernel
theorem dX1_more_42 : decode cX1_more 42 = .ok (.iload 4, 2) := by decide +kernel
theorem dX1_more_44 : decode cX1_more 44 = .ok (.bipush 16, 2) := by decide +kernel
theorem dX1_more_46 : decode cX1_more 46 = .ok (.ishr, 1) := by decide +kernel
theorem dX1_more_47 : decode cX1_more 47 = .ok (.istore_n 2, 1) := by decide +kernel
theorem dX1_more_48 : decode cX1_more 48 = .ok (.iinc 3 1, 3) := by decide +kernel
theorem dX1_more_51 : decode cX1_more 51 = .ok (.goto (-47), 3) := by decide +kernel
theorem dX1_more_54 : decode cX1_more 54 = .ok (.return_, 1) := by decide +kernel
theorem dX1_less_0 : decode cX1_less 0 = .ok (.bipush 24, 2) := by decide +kernel
theorem dX1_less_2 : decode cX1_less 2 = .ok (.istore_n 2, 1) := by decide +kernel
theorem dX1_less_3 : decode cX1_less 3 = .ok (.iload_n 2, 1) := by decide +kernel
theorem dX1_less_4 : decode cX1_less 4 = .ok (.ifCond .le 19, 3) := by decide +kernel
theorem dX1_less_7 : decode cX1_less 7 = .ok (.aload_n 0, 1) := by decide +kernel
theorem dX1_less_8 : decode cX1_less 8 = .ok (.iload_n 2, 1) := by decide +kernel
theorem dX1_less_9 : decode cX1_less 9 = .ok (.iaload, 1) := by decide +kernel
theorem dX1_less_10 : decode cX1_less 10 = .ok (.aload_n 1, 1) := by decide +kernel
theorem dX1_less_11 : decode cX1_less 11 = .ok (.iload_n 2, 1) := by decide +kernel
theorem dX1_less_12 : decode cX1_less 12 = .ok (.iaload, 1) := by decide +kernel
theorem dX1_less_13 : decode cX1_less 13 = .ok (.if_icmp .ne 10, 3) := by decide +kernel
theorem dX1_less_16 : decode cX1_less 16 = .ok (.iload_n 2, 1) := by decide +kernel
theorem dX1_less_17 : decode cX1_less 17 = .ok (.iconst 1, 1) := by decide +kernel
theorem dX1_less_18 : decode cX1_less 18 = .ok (.isub, 1) := by decide +kernel
theorem dX1_less_19 : decode cX1_less 19 = .ok (.istore_n 2, 1) := by decide +kernel
theorem dX1_less_20 : decode cX1_less 20 = .ok (.goto (-17), 3) := by decide +kernel
theorem dX1_less_23 : decode cX1_less 23 = .ok (.aload_n 0, 1) := by decide +kernel
theorem dX1_less_24 : decode cX1_less 24 = .ok (.iload_n 2, 1) := by decide +kernel
theorem dX1_less_25 : decode cX1_less 25 = .ok (.iaload, 1) := by decide +kernel
theorem dX1_less_26 : decode cX1_less 26 = .ok (.aload_n 1, 1) := by decide +kernel
theorem dX1_less_27 : decode cX1_less 27 = .ok (.iload_n 2, 1) := by decide +kernel
theorem dX1_less_28 : decode cX1_less 28 = .ok (.iaload, 1) := by decide +kernel
theorem dX1_less_29 : decode cX1_less 29 = .ok (.if_icmp .ge 7, 3) := by decide +kernel
theorem dX1_less_32 : decode cX1_less 32 = .ok (.iconst 1, 1) := by decide +kernel
theorem dX1_less_33 : decode cX1_less 33 = .ok (.goto 4, 3) := by decide +kernel
theorem dX1_less_36 : decode cX1_less 36 = .ok (.iconst 0, 1) := by decide +kernel
theorem dX1_less_37 : decode cX1_less 37 = .ok (.ireturn, 1) := by decide +kernel
theorem dX1_lessen_0 : decode cX1_lessen 0 = .ok (.iconst 0, 1) := by decide +kernel
theorem dX1_lessen_1 : decode cX1_lessen 1 = .ok (.istore_n 2, 1) := by decide +kernel
theorem dX1_lessen_2 : decode cX1_lessen 2 = .ok (.iconst 0, 1) := by decide +kernel
theorem dX1_lessen_3 : decode cX1_lessen 3 = .ok (.istore_n 3, 1) := by decide +kernel
theorem dX1_lessen_4 : decode cX1_lessen 4 = .ok (.iload_n 3, 1) := by decide +kernel
theorem dX1_lessen_5 : decode cX1_lessen 5 = .ok (.bipush 25, 2) := by decide +kernel
theorem dX1_lessen_7 : decode cX1_lessen 7 = .ok (.if_icmp .ge 34, 3) := by decide +kernel
theorem dX1_lessen_10 : decode cX1_lessen 10 = .ok (.aload_n 0, 1) := by decide +kernel
theorem dX1_lessen_11 : decode cX1_lessen 11 = .ok (.iload_n 3, 1) := by decide +kernel
theorem dX1_lessen_12 : decode cX1_lessen 12 = .ok (.iaload, 1) := by decide +kernel
theorem dX1_lessen_13 : decode cX1_lessen 13 = .ok (.aload_n 1, 1) := by decide +kernel
theorem dX1_lessen_14 : decode cX1_lessen 14 = .ok (.iload_n 3, 1) := by decide +kernel
theorem dX1_lessen_15 : decode cX1_lessen 15 = .ok (.iaload, 1) := by decide +kernel
theorem dX1_lessen_16 : decode cX1_lessen 16 = .ok (.isub, 1) := by decide +kernel
theorem dX1_lessen_17 : decode cX1_lessen 17 = .ok (.iload_n 2, 1) := by decide +kernel
theorem dX1_lessen_18 : decode cX1_lessen 18 = .ok (.iadd, 1) := by decide +kernel
theorem dX1_lessen_19 : decode cX1_lessen 19 = .ok (.istore 4, 2) := by decide +kernel
theorem dX1_lessen_21 : decode cX1_lessen 21 = .ok (.aload_n 0, 1) := by decide +kernel
theorem dX1_lessen_22 : decode cX1_lessen 22 = .ok (.iload_n 3, 1) := by decide +kernel
theorem dX1_lessen_23 : decode cX1_lessen 23 = .ok (.iload 4, 2) := by decide +kernel
theorem dX1_lessen_25 : decode cX1_lessen 25 = .ok (.ldc 16, 2) := by decide +kernel
theorem dX1_lessen_27 : decode cX1_lessen 27 = .ok (.iand, 1) := by decide +kernel
theorem dX1_lessen_28 : decode cX1_lessen 28 = .ok (.iastore, 1) := by decide +kernel
theorem dX1_lessen_29 : decode cX1_lessen 29 = .ok (.iload 4, 2) := by decide +kernel
theorem dX1_lessen_31 : decode cX1_lessen 31 = .ok (.bipush 16, 2) := by decide +kernel
theorem dX1_lessen_33 : decode cX1_lessen 33 = .ok (.ishr, 1) := by decide +kernel
theorem dX1_lessen_34 : decode cX1_lessen 34 = .ok (.istore_n 2, 1) := by decide +kernel
theorem dX1_lessen_35 : decode cX1_lessen 35 = .ok (.iinc 3 1, 3) := by decide +kernel
theorem dX1_lessen_38 : decode cX1_lessen 38 = .ok (.goto (-34), 3) := by decide +kernel
theorem dX1_lessen_41 : decode cX1_lessen 41 = .ok (.return_, 1) := by decide +kernel
theorem dX1_zero_0 : decode cX1_zero 0 = .ok (.aload_n 0, 1) := by decide +kernel
theorem dX1_zero_1 : decode cX1_zero 1 = .ok (.aload_n 0, 1) := by decide +kernel
theorem dX1_zero_2 : decode cX1_zero 2 = .ok (.getfield 27, 3) := by decide +kernel
theorem dX1_zero_5 : decode cX1_zero 5 = .ok (.iload_n 1, 1) := by decide +kernel
theorem dX1_zero_6 : decode cX1_zero 6 = .ok (.invokevirtual 65, 3) := by decide +kernel
theorem dX1_zero_9 : decode cX1_zero 9 = .ok (.aload_n 0, 1) := by decide +kernel
theorem dX1_zero_10 : decode cX1_zero 10 = .ok (.aload_n 0, 1) := by decide +kernel
theorem dX1_zero_11 : decode cX1_zero 11 = .ok (.getfield 27, 3) := by decide +kernel
theorem dX1_zero_14 : decode cX1_zero 14 = .ok (.invokevirtual 52, 3) := by decide +kernel
theorem dX1_zero_17 : decode cX1_zero 17 = .ok (.ireturn, 1) := by decide +kernel
theorem dX1_carry_0 : decode cX1_carry 0 = .ok (.aload_n 0, 1) := by decide +kernel
theorem dX1_carry_1 : decode cX1_carry 1 = .ok (.aload_n 0, 1) := by decide +kernel
theorem dX1_carry_2 : decode cX1_carry 2 = .ok (.getfield 27, 3) := by decide +kernel
theorem dX1_carry_5 : decode cX1_carry 5 = .ok (.iload_n 1, 1) := by decide +kernel
theorem dX1_carry_6 : decode cX1_carry 6 = .ok (.invokevirtual 65, 3) := by decide +kernel
theorem dX1_carry_9 : decode cX1_carry 9 = .ok (.iconst 0, 1) := by decide +kernel
theorem dX1_carry_10 : decode cX1_carry 10 = .ok (.istore_n 3, 1) := by decide +kernel
theorem dX1_carry_11 : decode cX1_carry 11 = .ok (.iload_n 3, 1) := by decide +kernel
theorem dX1_carry_12 : decode cX1_carry 12 = .ok (.bipush 24, 2) := by decide +kernel
theorem dX1_carry_14 : decode cX1_carry 14 = .ok (.if_icmp .ge 16, 3) := by decide +kernel
theorem dX1_carry_17 : decode cX1_carry 17 = .ok (.aload_n 0, 1) := by decide +kernel
theorem dX1_carry_18 : decode cX1_carry 18 = .ok (.getfield 30, 3) := by decide +kernel
theorem dX1_carry_21 : decode cX1_carry 21 = .ok (.iload_n 3, 1) := by decide +kernel
theorem dX1_carry_22 : decode cX1_carry 22 = .ok (.iconst 0, 1) := by decide +kernel
theorem dX1_carry_23 : decode cX1_carry 23 = .ok (.iastore, 1) := by decide +kernel
theorem dX1_carry_24 : decode cX1_carry 24 = .ok (.iinc 3 1, 3) := by decide +kernel
theorem dX1_carry_27 : decode cX1_carry 27 = .ok (.goto (-16), 3) := by decide +kernel
theorem dX1_carry_30 : decode cX1_carry 30 = .ok (.aload_n 0, 1) := by decide +kernel
theorem dX1_carry_31 : decode cX1_carry 31 = .ok (.getfield 30, 3) := by decide +kernel
theorem dX1_carry_34 : decode cX1_carry 34 = .ok (.iconst 0, 1) := by decide +kernel
theorem dX1_carry_35 : decode cX1_carry 35 = .ok (.iload_n 2, 1) := by decide +kernel
theorem dX1_carry_36 : decode cX1_carry 36 = .ok (.ldc 16, 2) := by decide +kernel
theorem dX1_carry_38 : decode cX1_carry 38 = .ok (.iand, 1) := by decide +kernel
theorem dX1_carry_39 : decode cX1_carry 39 = .ok (.iastore, 1) := by decide +kernel
theorem dX1_carry_40 : decode cX1_carry 40 = .ok (.aload_n 0, 1) := by decide +kernel
theorem dX1_carry_41 : decode cX1_carry 41 = .ok (.getfield 30, 3) := by decide +kernel
theorem dX1_carry_44 : decode cX1_carry 44 = .ok (.iconst 1, 1) := by decide +kernel
theorem dX1_carry_45 : decode cX1_carry 45 = .ok (.iload_n 2, 1) := by decide +kernel
theorem dX1_carry_46 : decode cX1_carry 46 = .ok (.bipush 16, 2) := by decide +kernel
theorem dX1_carry_48 : decode cX1_carry 48 = .ok (.iushr, 1) := by decide +kernel
theorem dX1_carry_49 : decode cX1_carry 49 = .ok (.iastore, 1) := by decide +kernel
theorem dX1_carry_50 : decode cX1_carry 50 = .ok (.iconst 0, 1) := by decide +kernel
theorem dX1_carry_51 : decode cX1_carry 51 = .ok (.istore_n 3, 1) := by decide +kernel
theorem dX1_carry_52 : decode cX1_carry 52 = .ok (.iload_n 3, 1) := by decide +kernel
theorem dX1_carry_53 : decode cX1_carry 53 = .ok (.sipush 384, 3) := by decide +kernel
theorem dX1_carry_56 : decode cX1_carry 56 = .ok (.if_icmp .ge 25, 3) := by decide +kernel
theorem dX1_carry_59 : decode cX1_carry 59 = .ok (.aload_n 0, 1) := by decide +kernel
theorem dX1_carry_60 : decode cX1_carry 60 = .ok (.aload_n 0, 1) := by decide +kernel
theorem dX1_carry_61 : decode cX1_carry 61 = .ok (.getfield 30, 3) := by decide +kernel
theorem dX1_carry_64 : decode cX1_carry 64 = .ok (.aload_n 0, 1) := by decide +kernel
theorem dX1_carry_65 : decode cX1_carry 65 = .ok (.getfield 30, 3) := by decide +kernel
theorem dX1_carry_68 : decode cX1_carry 68 = .ok (.aload_n 0, 1) := by decide +kernel
theorem dX1_carry_69 : decode cX1_carry 69 = .ok (.getfield 30, 3) := by decide +kernel
theorem dX1_carry_72 : decode cX1_carry 72 = .ok (.invokevirtual 56, 3) := by decide +kernel
theorem dX1_carry_75 : decode cX1_carry 75 = .ok (.iinc 3 1, 3) := by decide +kernel
theorem dX1_carry_78 : decode cX1_carry 78 = .ok (.goto (-26), 3) := by decide +kernel
theorem dX1_carry_81 : decode cX1_carry 81 = .ok (.aload_n 0, 1) := by decide +kernel
theorem dX1_carry_82 : decode cX1_carry 82 = .ok (.aload_n 0, 1) := by decide +kernel
theorem dX1_carry_83 : decode cX1_carry 83 = .ok (.getfield 27, 3) := by decide +kernel
theorem dX1_carry_86 : decode cX1_carry 86 = .ok (.aload_n 0, 1) := by decide +kernel
theorem dX1_carry_87 : decode cX1_carry 87 = .ok (.getfield 27, 3) := by decide +kernel
theorem dX1_carry_90 : decode cX1_carry 90 = .ok (.aload_n 0, 1) := by decide +kernel
theorem dX1_carry_91 : decode cX1_carry 91 = .ok (.getfield 30, 3) := by decide +kernel
theorem dX1_carry_94 : decode cX1_carry 94 = .ok (.invokevirtual 56, 3) := by decide +kernel
theorem dX1_carry_97 : decode cX1_carry 97 = .ok (.aload_n 0, 1) := by decide +kernel
theorem dX1_carry_98 : decode cX1_carry 98 = .ok (.iload_n 1, 1) := by decide +kernel
theorem dX1_carry_99 : decode cX1_carry 99 = .ok (.aload_n 0, 1) := by decide +kernel
theorem dX1_carry_100 : decode cX1_carry 100 = .ok (.getfield 27, 3) := by decide +kernel
theorem dX1_carry_103 : decode cX1_carry 103 = .ok (.invokevirtual 61, 3) := by decide +kernel
theorem dX1_carry_106 : decode cX1_carry 106 = .ok (.return_, 1) := by decide +kernel
end
section
/-! P is prime: a Lucas test over the factored part of P + 1, by counting -/
section Prm
def pr_is (n : Nat) : Prop := 2 ≤ n ∧ ∀ d, d ∣ n → d = 1 ∨ d = n
theorem pr_ex : ∀ (m n : Nat), n ≤ m → 2 ≤ n → ∃ q, pr_is q ∧ q ∣ n := by
  intro m
  induction m with
  | zero => intro n h1 h2; omega
  | succ m ih =>
    intro n h1 h2
    by_cases h : ∃ d, d ∣ n ∧ d ≠ 1 ∧ d ≠ n
    · obtain ⟨d, hd, hd1, hdn⟩ := h
      have hle : d ≤ n := Nat.le_of_dvd (by omega) hd
      have h0 : d ≠ 0 := by
        intro e
        subst e
        have := Nat.eq_zero_of_zero_dvd hd
        omega
      obtain ⟨q, hq, hqd⟩ := ih d (by omega) (by omega)
      exact ⟨q, hq, Nat.dvd_trans hqd hd⟩
    · refine ⟨n, ⟨h2, fun d hd => ?_⟩, Nat.dvd_refl n⟩
      by_cases h1 : d = 1
      · exact Or.inl h1
      · by_cases h3 : d = n
        · exact Or.inr h3
        · exact absurd ⟨d, hd, h1, h3⟩ h
theorem pr_small {n : Nat} (h2 : 2 ≤ n) (hn : ¬ pr_is n) : ∃ q, pr_is q ∧ q ∣ n ∧ q * q ≤ n := by
  by_cases h : ∃ d, d ∣ n ∧ d ≠ 1 ∧ d ≠ n
  · obtain ⟨d, ⟨e, he⟩, hd1, hdn⟩ := h
    have hd0 : d ≠ 0 := by intro z; subst z; simp at he; omega
    have he0 : e ≠ 0 := by intro z; subst z; simp at he; omega
    have he1 : e ≠ 1 := by intro z; subst z; simp at he; exact hdn he.symm
    rcases Nat.le_total d e with hde | hde
    · obtain ⟨q, hq, hqd⟩ := pr_ex d d (Nat.le_refl d) (by omega)
      have hqle : q ≤ d := Nat.le_of_dvd (by omega) hqd
      refine ⟨q, hq, Nat.dvd_trans hqd ⟨e, he⟩, ?_⟩
      rw [he]
      exact Nat.mul_le_mul hqle (Nat.le_trans hqle hde)
    · obtain ⟨q, hq, hqd⟩ := pr_ex e e (Nat.le_refl e) (by omega)
      have hqle : q ≤ e := Nat.le_of_dvd (by omega) hqd
      refine ⟨q, hq, Nat.dvd_trans hqd ⟨d, by rw [he, Nat.mul_comm]⟩, ?_⟩
      rw [he]
      exact Nat.mul_le_mul (Nat.le_trans hqle hde) hqle
  · refine absurd ⟨h2, fun d hd => ?_⟩ hn
    by_cases h1 : d = 1
    · exact Or.inl h1
    · by_cases h3 : d = n
      · exact Or.inr h3
      · exact absurd ⟨d, hd, h1, h3⟩ h
def pr_try (r : Nat) : Nat → Bool
  | 0 => true
  | m + 1 => (m + 1 < 2 || r % (m + 1) != 0) && pr_try r m
theorem pr_try_spec {r : Nat} : ∀ m, pr_try r m = true → ∀ d, 2 ≤ d → d ≤ m → r % d ≠ 0 := by
  intro m
  induction m with
  | zero => intro _ d h1 h2; omega
  | succ m ih =>
    intro h d h1 h2
    simp only [pr_try, Bool.and_eq_true, Bool.or_eq_true, decide_eq_true_eq, bne_iff_ne, ne_eq] at h
    by_cases hd : d = m + 1
    · subst hd
      rcases h.1 with h3 | h3
      · omega
      · exact h3
    · exact ih h.2 d h1 (by omega)
theorem pr_of {r : Nat} (m : Nat) (h2 : 2 ≤ r) (hm : r < (m + 1) * (m + 1)) (h : pr_try r m = true) : pr_is r := by
  refine Classical.byContradiction fun hn => ?_
  obtain ⟨q, hq, hqr, hqq⟩ := pr_small h2 hn
  have hle : q ≤ m := by
    refine Classical.byContradiction fun hz => ?_
    have : (m + 1) * (m + 1) ≤ q * q := Nat.mul_le_mul (by omega) (by omega)
    omega
  exact pr_try_spec m h q hq.1 hle (Nat.mod_eq_zero_of_dvd hqr)
theorem pr_cop {r c : Nat} (hr : pr_is r) (h : ¬ r ∣ c) : Nat.Coprime r c := by
  rcases hr.2 _ (Nat.gcd_dvd_left r c) with h1 | h1
  · exact h1
  · exact absurd (by rw [← h1]; exact Nat.gcd_dvd_right r c) h
theorem pr_euc {q x y : Nat} (hq : pr_is q) (h : q ∣ x * y) : q ∣ x ∨ q ∣ y := by
  by_cases h1 : q ∣ x
  · exact Or.inl h1
  · exact Or.inr ((pr_cop hq h1).dvd_of_dvd_mul_left h)
theorem pr_pig : ∀ (m n : Nat) (f : Nat → Nat), (∀ i, i < n → f i < m) → (∀ i j, i < n → j < n → f i = f j → i = j) → n ≤ m := by
  intro m
  induction m with
  | zero =>
    intro n f h1 h2
    cases n with
    | zero => exact Nat.le_refl 0
    | succ n => exact absurd (h1 0 (by omega)) (by omega)
  | succ m ih =>
    intro n f h1 h2
    cases n with
    | zero => omega
    | succ n =>
      have key := ih n (fun i => if f i = m then f n else f i) (fun i hi => by
          by_cases h : f i = m
          · simp only [h, if_true]
            have hne : f n ≠ m := fun e => by
              have := h2 i n (by omega) (by omega) (by rw [h, e])
              omega
            have := h1 n (by omega)
            omega
          · simp only [h, if_false]
            have := h1 i (by omega)
            omega)
        (fun i j hi hj e => by
          by_cases h : f i = m
          · by_cases h' : f j = m
            · exact h2 i j (by omega) (by omega) (by rw [h, h'])
            · simp only [h, h', if_true, if_false] at e
              have := h2 n j (by omega) (by omega) e
              omega
          · by_cases h' : f j = m
            · simp only [h, h', if_true, if_false] at e
              have := h2 i n (by omega) (by omega) e
              omega
            · simp only [h, h', if_false] at e
              exact h2 i j (by omega) (by omega) e)
      omega
/-- the powers of 30 + sqrt 899, whose norm is 1 -/
def pr_A : Nat → Nat × Nat
  | 0 => (1, 0)
  | n + 1 => (30 * (pr_A n).1 + 899 * (pr_A n).2, (pr_A n).1 + 30 * (pr_A n).2)
theorem pr_A_add (m n : Nat) : (pr_A (m + n)).1 = (pr_A m).1 * (pr_A n).1 + 899 * ((pr_A m).2 * (pr_A n).2) ∧ (pr_A (m + n)).2 = (pr_A m).1 * (pr_A n).2 + (pr_A m).2 * (pr_A n).1 := by
  induction n with
  | zero => simp [pr_A]
  | succ n ih =>
    have e1 : pr_A (m + (n + 1)) = (30 * (pr_A (m + n)).1 + 899 * (pr_A (m + n)).2, (pr_A (m + n)).1 + 30 * (pr_A (m + n)).2) := rfl
    have e2 : pr_A (n + 1) = (30 * (pr_A n).1 + 899 * (pr_A n).2, (pr_A n).1 + 30 * (pr_A n).2) := rfl
    rw [e1, e2, ih.1, ih.2]
    generalize (pr_A m).1 = a
    generalize (pr_A m).2 = b
    generalize (pr_A n).1 = x
    generalize (pr_A n).2 = y
    dsimp only
    constructor <;> grind
theorem pr_A_norm (n : Nat) : (pr_A n).1 * (pr_A n).1 = 1 + 899 * ((pr_A n).2 * (pr_A n).2) := by
  induction n with
  | zero => simp [pr_A]
  | succ n ih =>
    have e2 : pr_A (n + 1) = (30 * (pr_A n).1 + 899 * (pr_A n).2, (pr_A n).1 + 30 * (pr_A n).2) := rfl
    rw [e2]
    dsimp only
    generalize (pr_A n).1 = x at *
    generalize (pr_A n).2 = y at *
    grind
/-- a number is computed before it goes on -/
def pr_fz (n : Nat) (f : Nat → Bool) : Bool := match n with
  | 0 => f 0
  | k + 1 => f (k + 1)
theorem pr_fz_eq (n : Nat) (f : Nat → Bool) : pr_fz n f = f n := by
  cases n <;> rfl
def pr_run (N : Nat) : Nat → Nat → (Nat → Nat → Bool) → Bool
  | 0, _, k => k (1 % N) 0
  | n + 1, e, k => pr_fz (e / 2) fun e2 => pr_run N n e2 fun a b =>
      pr_fz ((a * a + 899 * (b * b)) % N) fun a2 => pr_fz ((2 * (a * b)) % N) fun b2 =>
        pr_fz (e % 2) fun z => cond (Nat.beq z 1) (pr_fz ((30 * a2 + 899 * b2) % N) fun a3 => pr_fz ((a2 + 30 * b2) % N) fun b3 => k a3 b3) (k a2 b2)
theorem pr_dbl (N h : Nat) : (pr_A (h + h)).1 % N = ((pr_A h).1 % N * ((pr_A h).1 % N) + 899 * ((pr_A h).2 % N * ((pr_A h).2 % N))) % N ∧ (pr_A (h + h)).2 % N = (2 * ((pr_A h).1 % N * ((pr_A h).2 % N))) % N := by
  obtain ⟨e1, e2⟩ := pr_A_add h h
  rw [e1, e2]
  constructor
  · simp [Nat.add_mod, Nat.mul_mod]
  · rw [Nat.mul_comm (pr_A h).2 (pr_A h).1, ← Nat.two_mul]
    simp [Nat.mul_mod]
theorem pr_run_eq (N : Nat) : ∀ (n e : Nat) (k : Nat → Nat → Bool), e < 2 ^ n → pr_run N n e k = k ((pr_A e).1 % N) ((pr_A e).2 % N) := by
  intro n
  induction n with
  | zero =>
    intro e k h
    have h0 : e = 0 := by simpa using h
    subst h0
    simp [pr_run, pr_A]
  | succ n ih =>
    intro e k h
    have h2 : e / 2 < 2 ^ n := by
      rw [Nat.pow_succ] at h
      omega
    simp only [pr_run, pr_fz_eq]
    rw [ih (e / 2) _ h2]
    obtain ⟨d1, d2⟩ := pr_dbl N (e / 2)
    rcases Nat.mod_two_eq_zero_or_one e with z | z
    · have he : e / 2 + e / 2 = e := by omega
      rw [he] at d1 d2
      rw [z, d1, d2]
      rfl
    · have he : e / 2 + e / 2 + 1 = e := by omega
      have e1 : pr_A (e / 2 + e / 2 + 1) = (30 * (pr_A (e / 2 + e / 2)).1 + 899 * (pr_A (e / 2 + e / 2)).2, (pr_A (e / 2 + e / 2)).1 + 30 * (pr_A (e / 2 + e / 2)).2) := rfl
      rw [he] at e1
      rw [z, e1, ← d1, ← d2]
      show k _ _ = k _ _
      congr 1
      · simp [Nat.add_mod, Nat.mul_mod]
      · simp [Nat.add_mod, Nat.mul_mod]
def pr_o (q n : Nat) : Prop := (pr_A n).1 % q = 1 % q ∧ (pr_A n).2 % q = 0
theorem pr_o_add {q m : Nat} (h : pr_o q m) (n : Nat) : (pr_A (m + n)).1 % q = (pr_A n).1 % q ∧ (pr_A (m + n)).2 % q = (pr_A n).2 % q := by
  obtain ⟨e1, e2⟩ := pr_A_add m n
  rw [e1, e2]
  constructor
  · rw [Nat.add_mod, Nat.mul_mod, h.1, ← Nat.mul_mod, Nat.one_mul, Nat.mul_mod 899, Nat.mul_mod (pr_A m).2, h.2]
    simp
  · rw [Nat.add_mod, Nat.mul_mod, h.1, ← Nat.mul_mod, Nat.one_mul, Nat.mul_mod (pr_A m).2, h.2]
    simp
theorem pr_o_mul {q m : Nat} (h : pr_o q m) : ∀ k, pr_o q (m * k) := by
  intro k
  induction k with
  | zero => exact ⟨rfl, by simp [pr_A]⟩
  | succ k ih =>
    rw [Nat.mul_succ, Nat.add_comm]
    obtain ⟨e1, e2⟩ := pr_o_add h (m * k)
    exact ⟨e1.trans ih.1, e2.trans ih.2⟩
theorem pr_o_dvd {q m n : Nat} (h0 : 0 < m) (h : pr_o q m) (hl : ∀ j, j < m → ¬ (0 < j ∧ pr_o q j)) (hn : pr_o q n) : m ∣ n := by
  have e := Nat.div_add_mod n m
  have h1 := pr_o_add (pr_o_mul h (n / m)) (n % m)
  rw [e] at h1
  have h2 : pr_o q (n % m) := ⟨h1.1.symm.trans hn.1, h1.2.symm.trans hn.2⟩
  have h3 := hl (n % m) (Nat.mod_lt n h0)
  refine Nat.dvd_of_mod_eq_zero ?_
  refine Classical.byContradiction fun z => h3 ⟨by omega, h2⟩
theorem pr_o_inj {q m : Nat} (h : pr_o q m) (hl : ∀ j, j < m → ¬ (0 < j ∧ pr_o q j)) {i j : Nat} (hij : i < j) (hj : j < m) (e1 : (pr_A i).1 % q = (pr_A j).1 % q) (e2 : (pr_A i).2 % q = (pr_A j).2 % q) : False := by
  refine hl (i + (m - j)) (by omega) ⟨by omega, ?_⟩
  obtain ⟨a1, a2⟩ := pr_A_add i (m - j)
  obtain ⟨b1, b2⟩ := pr_A_add j (m - j)
  have ej : j + (m - j) = m := by omega
  rw [ej] at b1 b2
  refine ⟨?_, ?_⟩
  · rw [a1, ← h.1, b1, Nat.add_mod, Nat.mul_mod, e1, Nat.mul_mod 899, Nat.mul_mod (pr_A i).2, e2, ← Nat.mul_mod (pr_A j).2, ← Nat.mul_mod, ← Nat.mul_mod 899, ← Nat.add_mod]
  · rw [a2, ← h.2, b2, Nat.add_mod, Nat.mul_mod, e1, Nat.mul_mod (pr_A i).2, e2, ← Nat.mul_mod (pr_A j).2, ← Nat.mul_mod, ← Nat.add_mod]
theorem pr_root {q x y : Nat} (hq : pr_is q) (hx : x < q) (hy : y < q) (h : (x * x) % q = (y * y) % q) : x = y ∨ x + y = q := by
  rcases Nat.le_total y x with hle | hle
  · have hd : q ∣ (x - y) * (x + y) := by
      have e : (x - y) * (x + y) = x * x - y * y := by
        obtain ⟨z, rfl⟩ : ∃ z, x = y + z := ⟨x - y, by omega⟩
        have : (y + z) * (y + z) = y * y + (y + z - y) * (y + z + y) := by
          rw [Nat.add_sub_cancel_left]; grind
        omega
      rw [e]
      exact Nat.dvd_of_mod_eq_zero (Nat.sub_mod_eq_zero_of_mod_eq h)
    rcases pr_euc hq hd with h1 | h1
    · left
      have := Nat.eq_zero_of_dvd_of_lt h1 (by omega)
      omega
    · by_cases h0 : x + y = 0
      · left; omega
      · right
        obtain ⟨c, hc⟩ := h1
        have hc1 : c < 2 := by
          refine Classical.byContradiction fun hz => ?_
          have : q * 2 ≤ q * c := Nat.mul_le_mul_left q (by omega)
          omega
        have hc0 : c ≠ 0 := by intro z; subst z; simp at hc; omega
        have : c = 1 := by omega
        subst this
        omega
  · have hd : q ∣ (y - x) * (y + x) := by
      have e : (y - x) * (y + x) = y * y - x * x := by
        obtain ⟨z, rfl⟩ : ∃ z, y = x + z := ⟨y - x, by omega⟩
        have : (x + z) * (x + z) = x * x + (x + z - x) * (x + z + x) := by
          rw [Nat.add_sub_cancel_left]; grind
        omega
      rw [e]
      exact Nat.dvd_of_mod_eq_zero (Nat.sub_mod_eq_zero_of_mod_eq h.symm)
    rcases pr_euc hq hd with h1 | h1
    · left
      have := Nat.eq_zero_of_dvd_of_lt h1 (by omega)
      omega
    · by_cases h0 : x + y = 0
      · left; omega
      · right
        obtain ⟨c, hc⟩ := h1
        have hc1 : c < 2 := by
          refine Classical.byContradiction fun hz => ?_
          have : q * 2 ≤ q * c := Nat.mul_le_mul_left q (by omega)
          omega
        have hc0 : c ≠ 0 := by intro z; subst z; simp at hc; omega
        have : c = 1 := by omega
        subst this
        omega
/-- the order of the powers modulo a prime is at most twice that prime -/
theorem pr_ord_le {q m : Nat} (hq : pr_is q) (h : pr_o q m) (hl : ∀ j, j < m → ¬ (0 < j ∧ pr_o q j)) : m ≤ 2 * q := by
  have hq0 : 0 < q := by have := hq.1; omega
  refine pr_pig (2 * q) m (fun i => 2 * ((pr_A i).2 % q) + (if 2 * ((pr_A i).1 % q) < q then 0 else 1)) (fun i _ => ?_) (fun i j hi hj e => ?_)
  · have := Nat.mod_lt (pr_A i).2 hq0
    split <;> omega
  · have hx := Nat.mod_lt (pr_A i).1 hq0
    have hy := Nat.mod_lt (pr_A j).1 hq0
    have e2 : (pr_A i).2 % q = (pr_A j).2 % q := by
      split at e <;> split at e <;> omega
    have e3 : ((pr_A i).1 % q * ((pr_A i).1 % q)) % q = ((pr_A j).1 % q * ((pr_A j).1 % q)) % q := by
      rw [← Nat.mul_mod, ← Nat.mul_mod, pr_A_norm, pr_A_norm, Nat.add_mod, Nat.mul_mod 899, Nat.mul_mod (pr_A i).2, e2, ← Nat.mul_mod (pr_A j).2, ← Nat.mul_mod 899, ← Nat.add_mod]
    have e1 : (pr_A i).1 % q = (pr_A j).1 % q := by
      rcases pr_root hq hx hy e3 with h1 | h1
      · exact h1
      · split at e <;> split at e <;> omega
    rcases Nat.lt_trichotomy i j with h1 | h1 | h1
    · exact (pr_o_inj h hl h1 hj e1 e2).elim
    · exact h1
    · exact (pr_o_inj h hl h1 hi e1.symm e2.symm).elim
/-- 2^384 - 2^128 - 2^96 + 2^32 - 1 -/
def PP : Nat := 39402006196394479212279040100143613805079739270465446667948293404245721771496870329047266088258938001861606973112319
def pr_F : Nat := 184588480731650407526191890894176302779696924485244545925120
def pr_rs : List Nat := [2, 3, 5, 7, 13, 17, 97, 101, 193, 241, 257, 641, 673, 1163, 65537, 1075237, 6700417, 22253377]
def pr_bad (r : Nat) : Bool := pr_run PP 384 ((PP + 1) / r) fun a _ => Nat.beq (Nat.gcd (a + PP - 1) PP) 1
theorem pr_bads : pr_rs.all pr_bad = true := by decide +kernel
theorem pr_one : pr_run PP 385 (PP + 1) (fun a b => Nat.beq a 1 && Nat.beq b 0) = true := by decide +kernel
theorem pr_rs_pr : ∀ r ∈ pr_rs, pr_is r := by
  have h : pr_rs.all (fun r => decide (2 ≤ r) && decide (r < 4800 * 4800) && pr_try r (min (r - 1) 4799)) = true := by decide +kernel
  intro r hr
  have h1 := List.all_eq_true.mp h r hr
  simp only [Bool.and_eq_true, decide_eq_true_eq] at h1
  obtain ⟨⟨h2, h3⟩, h4⟩ := h1
  refine pr_of (min (r - 1) 4799) h2 ?_ h4
  rcases Nat.le_total (r - 1) 4799 with h5 | h5
  · rw [Nat.min_eq_left h5]
    have e : r - 1 + 1 = r := by omega
    rw [e]
    calc r = 1 * r := (Nat.one_mul r).symm
      _ < r * r := Nat.mul_lt_mul_of_pos_right (by omega) (by omega)
  · rw [Nat.min_eq_right h5]
    exact h3
theorem pr_F_split : pr_F = (pr_rs.map fun r => if r = 2 then 2 ^ 32 else if r = 3 then 9 else r).foldr (· * ·) 1 := by decide +kernel
theorem pr_F_cop {c : Nat} (h : ∀ r ∈ pr_rs, ¬ r ∣ c) : Nat.Coprime pr_F c := by
  rw [pr_F_split]
  have key : ∀ l : List Nat, (∀ r ∈ l, Nat.Coprime r c) → Nat.Coprime ((l.map fun r => if r = 2 then 2 ^ 32 else if r = 3 then 9 else r).foldr (· * ·) 1) c := by
    intro l
    induction l with
    | nil => intro _; exact Nat.coprime_one_left c
    | cons r l ih =>
      intro h
      have h1 := h r List.mem_cons_self
      have h2 := ih (fun x hx => h x (List.mem_cons_of_mem _ hx))
      simp only [List.map_cons, List.foldr_cons]
      refine Nat.Coprime.mul_left ?_ h2
      by_cases e2 : r = 2
      · subst e2
        exact Nat.Coprime.pow_left 32 h1
      · by_cases e3 : r = 3
        · subst e3
          exact Nat.Coprime.mul_left h1 h1
        · simp only [e2, e3, if_false]
          exact h1
  exact key pr_rs (fun r hr => pr_cop (pr_rs_pr r hr) (h r hr))
theorem PP_prime : pr_is PP := by
  refine Classical.byContradiction fun hn => ?_
  obtain ⟨q, hq, hqP, hqq⟩ := pr_small (by decide +kernel) hn
  have h1 : pr_o q (PP + 1) := by
    have h := pr_one
    rw [pr_run_eq PP 385 (PP + 1) _ (by decide +kernel)] at h
    simp only [Bool.and_eq_true, Nat.beq_eq] at h
    refine ⟨?_, ?_⟩
    · rw [← Nat.mod_mod_of_dvd (pr_A (PP + 1)).1 hqP, h.1]
    · rw [← Nat.mod_mod_of_dvd (pr_A (PP + 1)).2 hqP, h.2]; exact Nat.zero_mod q
  obtain ⟨m, ⟨hm0, hm⟩, hl⟩ := pk_least (fun k => 0 < k ∧ pr_o q k) ⟨PP + 1, by omega, h1⟩
  obtain ⟨c, hc⟩ := pr_o_dvd hm0 hm hl h1
  have hF : pr_F ∣ m := by
    have hco : Nat.Coprime pr_F c := pr_F_cop (fun r hr hrc => by
      obtain ⟨c', rfl⟩ := hrc
      have hr0 : 0 < r := by have := (pr_rs_pr r hr).1; omega
      have he : (PP + 1) / r = m * c' := by
        rw [hc, Nat.mul_left_comm, Nat.mul_div_cancel_left _ hr0]
      have hb := List.all_eq_true.mp pr_bads r hr
      unfold pr_bad at hb
      rw [pr_run_eq PP 384 _ _ (by
        have : (PP + 1) / r ≤ PP + 1 := Nat.div_le_self _ _
        have h2 : PP + 1 < 2 ^ 384 := by decide +kernel
        omega), he, Nat.beq_eq] at hb
      have ho := (pr_o_mul hm c').1
      have hq1 : 1 < q := hq.1
      have hdv : q ∣ (pr_A (m * c')).1 % PP + PP - 1 := by
        have ea : ((pr_A (m * c')).1 % PP) % q = 1 := by
          rw [Nat.mod_mod_of_dvd _ hqP, ho, Nat.mod_eq_of_lt hq1]
        have hpos : 1 ≤ (pr_A (m * c')).1 % PP := by
          rcases Nat.eq_zero_or_pos ((pr_A (m * c')).1 % PP) with z | z
          · rw [z] at ea; simp at ea
          · exact z
        have e2 : (pr_A (m * c')).1 % PP + PP - 1 = ((pr_A (m * c')).1 % PP - 1) + PP := by omega
        rw [e2]
        refine Nat.dvd_add ?_ hqP
        exact Nat.dvd_of_mod_eq_zero (Nat.sub_mod_eq_zero_of_mod_eq (by rw [ea, Nat.mod_eq_of_lt hq1]))
      have := Nat.dvd_gcd hdv hqP
      rw [hb] at this
      have := Nat.le_of_dvd (by omega) this
      omega)
    refine hco.dvd_of_dvd_mul_right ?_
    rw [← hc]
    exact (by decide +kernel : pr_F ∣ PP + 1)
  have hle := pr_ord_le hq hm hl
  have hFm := Nat.le_of_dvd hm0 hF
  have h2 : pr_F * pr_F ≤ (2 * q) * (2 * q) := Nat.mul_le_mul (Nat.le_trans hFm hle) (Nat.le_trans hFm hle)
  have h3 : (2 * q) * (2 * q) = 4 * (q * q) := by grind
  have h4 : 4 * PP < pr_F * pr_F := by decide +kernel
  omega
theorem PP_cop {x : Nat} (h0 : 0 < x) (h : x < PP) : Nat.Coprime PP x := pr_cop PP_prime (fun hd => by
  have := Nat.le_of_dvd h0 hd
  omega)
end Prm
end
section
/-! THE FRAME: an object of ours with its twelve arrays; J: a judgement over the arrays' contents, the locals and the stack alone -/
section Frm
abbrev vwCl : List vw_C := [(RX0, TX0, 12), (RX1, TX1, 12)]
abbrev gF : Type := Nat → Nat → Int32
abbrev gG : Type := Nat → Int64
/-- lengths of the arrays 1..12 of class ci -/
def gLen (ci i : Nat) : Nat := if ci = 0 then (if i = 1 then 48 else 12) else if i = 1 then 96 else if i = 5 then 25 else if 9 ≤ i then 25 else 24
/-- i is the place of an int array of class ci -/
def gOk (ci i : Nat) : Prop := (1 ≤ i ∧ i ≤ 12) ∧ ¬ (ci = 0 ∧ i = 5)
def gE (ci : Nat) (d dL : ClassId) (f : gF) (g : gG) (i : Nat) : va_E := .inl (if ci = 0 ∧ i = 5 then (dL, 14, .inr (.inl g)) else (d, gLen ci i, .inl (f i)))
def gRefs (a : Nat → Nat) : List Value := [.ref (a 1), .ref (a 2), .ref (a 3), .ref (a 4), .ref (a 5), .ref (a 6), .ref (a 7), .ref (a 8), .ref (a 9), .ref (a 10), .ref (a 11), .ref (a 12)]
def gw (ci : Nat) (d dL : ClassId) (a : Nat → Nat) (f : gF) (g : gG) : va_W := [(a 0, .inr (ci, gRefs a)), (a 1, gE ci d dL f g 1), (a 2, gE ci d dL f g 2), (a 3, gE ci d dL f g 3), (a 4, gE ci d dL f g 4), (a 5, gE ci d dL f g 5), (a 6, gE ci d dL f g 6), (a 7, gE ci d dL f g 7), (a 8, gE ci d dL f g 8), (a 9, gE ci d dL f g 9), (a 10, gE ci d dL f g 10), (a 11, gE ci d dL f g 11), (a 12, gE ci d dL f g 12)]
theorem gw_at0 {ci : Nat} {d dL : ClassId} {a : Nat → Nat} {f : gF} {g : gG} : (gw ci d dL a f g)[0]? = some (a 0, .inr (ci, gRefs a)) := rfl
theorem gw_atE {ci : Nat} {d dL : ClassId} {a : Nat → Nat} {f : gF} {g : gG} {i : Nat} (h : 1 ≤ i ∧ i ≤ 12) : (gw ci d dL a f g)[i]? = some (a i, gE ci d dL f g i) := by
  obtain ⟨h1, h2⟩ := h
  rcases (show i = 1 ∨ i = 2 ∨ i = 3 ∨ i = 4 ∨ i = 5 ∨ i = 6 ∨ i = 7 ∨ i = 8 ∨ i = 9 ∨ i = 10 ∨ i = 11 ∨ i = 12 by omega) with rfl | rfl | rfl | rfl | rfl | rfl | rfl | rfl | rfl | rfl | rfl | rfl <;> rfl
theorem gw_at {ci : Nat} {d dL : ClassId} {a : Nat → Nat} {f : gF} {g : gG} {i : Nat} (h : gOk ci i) : (gw ci d dL a f g)[i]? = some (a i, .inl (d, gLen ci i, .inl (f i))) := by
  rw [gw_atE h.1, gE, if_neg h.2]
theorem gw_atL {d dL : ClassId} {a : Nat → Nat} {f : gF} {g : gG} : (gw 0 d dL a f g)[5]? = some (a 5, .inl (dL, 14, .inr (.inl g))) := by
  rw [gw_atE (by decide), gE, if_pos ⟨rfl, rfl⟩]
theorem gw_in {ci : Nat} {d dL : ClassId} {a : Nat → Nat} {f : gF} {g : gG} {k : Nat} {q : Nat × va_E} (h : (gw ci d dL a f g)[k]? = some q) : k < 13 ∧ q.1 = a k := by
  have hk : k < 13 := (List.getElem?_eq_some_iff.mp h).1
  refine ⟨hk, ?_⟩
  rcases Nat.eq_zero_or_pos k with h0 | h0
  · subst h0
    cases h
    rfl
  · rw [gw_atE (by omega)] at h
    cases h
    rfl
theorem gw_set {ci : Nat} {d dL : ClassId} {a : Nat → Nat} {f : gF} {g : gG} {i : Nat} {F : Nat → Int32} (h : gOk ci i) : (gw ci d dL a f g).set i (a i, .inl (d, gLen ci i, .inl F)) = gw ci d dL a (va_up f i F) g := by
  apply List.ext_getElem?
  intro k
  rw [List.getElem?_set]
  by_cases hk : k < 13
  · rcases Nat.eq_zero_or_pos k with h0 | h0
    · subst h0
      rw [if_neg (by have := h.1.1; omega)]
      rfl
    · rw [gw_atE (f := va_up f i F) (by omega), gw_atE (by omega)]
      by_cases e : i = k
      · subst e
        rw [if_pos rfl, if_pos (by show i < 13; exact hk), gE, if_neg h.2, va_up_self]
      · rw [if_neg e, gE, gE, va_up_ne _ _ (Ne.symm e)]
  · have hn : ∀ f' : gF, (gw ci d dL a f' g)[k]? = none := fun f' => List.getElem?_eq_none_iff.mpr (by show 13 ≤ k; omega)
    have hi : ¬ i = k := by have := h.1.2; omega
    rw [if_neg hi, hn, hn]
theorem gw_setL {d dL : ClassId} {a : Nat → Nat} {f : gF} {g g' : gG} : (gw 0 d dL a f g).set 5 (a 5, .inl (dL, 14, .inr (.inl g'))) = gw 0 d dL a f g' := by
  simp [gw, gE]
/-- the cells of the object -/
def gA (a : Nat → Nat) : Nat → Prop := fun q => ∃ k, k < 13 ∧ q = a k
theorem gw_D {A : Nat → Prop} {ci : Nat} {d dL : ClassId} {a : Nat → Nat} {f : gF} {g : gG} (h : va_D A (gw ci d dL a f g)) : va_D (gA a) (gw ci d dL a f g) := h.weaken (fun k _ hk _ => ⟨k, (gw_in hk).1, (gw_in hk).2⟩)
abbrev gTys (d dL : ClassId) : List (ClassId × FieldType) := [(d, .int), (dL, .long)]
def gP (D : va_G) (d dL : ClassId) (ci : Nat) (a : Nat → Nat) (f : gF) (g : gG) (U : State) : Prop := va_P D vwCl (gw ci d dL a f g) U.heap ∧ va_K D vwCl (gTys d dL) U ∧ va_D (fun _ => True) (gw ci d dL a f g)
def gQ (D : va_G) (d dL : ClassId) (ci : Nat) (a : Nat → Nat) (Rv : Option Value → gF → gG → Prop) : Array Value → State → Outcome → State → Prop := fun _ st oc t => (∃ (v : Option Value) (f : gF) (g : gG), oc = .returned v ∧ Rv v f g ∧ gP D d dL ci a f g t) ∧ va_F (gA a) st t
/-- a contract of a method of the class ci over the object at a -/
abbrev gMet (l : Launch) (y : MethodName) (cc : ByteArray) (L : Nat) (ret : Option FieldType) (fr lo : Nat) (D : va_G) (d dL : ClassId) (ci : Nat) (a : Nat → Nat) (av : List Value) (f : gF) (g : gG) (Rv : Option Value → gF → gG → Prop) : Prop :=
  Met l y (ws_ y cc L ret) ({ frames := fr, cells := 0, slots := 0, locals := lo }) (va_Pc av (gP D d dL ci a f g)) (gQ D d dL ci a Rv) 0 0 (gA a)
abbrev gZ : Type := (Program × Launch × Env × Room × State) × (MethodId × Array Value × List Frame × Method × Code × Nat) × (va_G × ClassId × ClassId × Nat × (Nat → Nat)) × (Option Value → gF → gG → Prop) × (Nat → Prop) × Nat × Nat × (Array Value → State → Outcome → State → Prop) × (Addr → Prop)
def gX (z : gZ) (f : gF) (g : gG) (H : Heap) (locs : List Loc) : Prop := va_K z.2.2.1.1 vwCl (gTys z.2.2.1.2.1 z.2.2.1.2.2.1) z.1.2.2.2.2 ∧ va_P z.2.2.1.1 vwCl (gw z.2.2.1.2.2.2.1 z.2.2.1.2.1 z.2.2.1.2.2.1 z.2.2.1.2.2.2.2 f g) H ∧ va_D z.2.2.2.2.1 (gw z.2.2.1.2.2.2.1 z.2.2.1.2.1 z.2.2.1.2.2.1 z.2.2.1.2.2.2.2 f g) ∧ va_S z.2.2.2.2.1 z.1.2.2.2.2.heap H locs
def J (z : gZ) (f : gF) (g : gG) (pc : Nat) (lv : List (Nat × Value)) (st : List Value) : Prop := ∀ (H : Heap) (locs : List Loc) (ls : Array Slot), gX z f g H locs → lv_has ls z.2.1.2.2.2.2.2 lv →
  W z.1.1 z.1.2.1 z.1.2.2.1 z.1.2.2.2.1 z.1.2.2.2.2 z.2.1.1 z.2.1.2.1 z.2.1.2.2.1 z.2.1.2.2.2.1 z.2.1.2.2.2.2.1 H locs z.2.2.2.2.2.1 z.2.2.2.2.2.2.1 (MQ z.2.1.2.2.1 z.2.2.2.2.2.2.2.1 z.2.1.2.1 z.1.2.2.2.2 z.2.2.2.2.2.1 z.2.2.2.2.2.2.1 z.2.2.2.2.2.2.2.2) (F0 z.2.1.1 pc ls st)
def gOK (z : gZ) (l : Launch) (cc : ByteArray) (own : String) (ci : Nat) (a : Nat → Nat) (D : va_G) (d dL : ClassId) (nL : Nat) (ret : Option FieldType) (Rv : Option Value → gF → gG → Prop) (R : Room) : Prop :=
  z.1.1.tables.exec = Jvm.exec ∧ z.2.1.2.2.2.2.1.code = cc ∧ z.1.2.2.2.2.vm.findClass own = some z.2.1.1.cls ∧ (∀ w ∈ lw_all, w.before z.2.1.2.1 z.1.2.2.2.2 = true) ∧ z.2.1.2.2.2.2.1.maxLocals = nL ∧ z.2.1.2.2.2.1.locks = false ∧ z.2.1.2.2.2.1.sig.returnType = ret ∧
  z.1.2.1 = l ∧ z.2.2.1.2.2.2.1 = ci ∧ z.2.2.1.2.2.2.2 = a ∧ z.2.2.1.1 = D ∧ z.2.2.1.2.1 = d ∧ z.2.2.1.2.2.1 = dL ∧ z.2.1.2.2.2.2.2 = nL ∧ z.2.2.2.1 = Rv ∧ z.1.2.2.2.1 = R ∧ (∀ q, gA a q → z.2.2.2.2.1 q) ∧ (z.2.2.2.2.2.1 ≤ R.cells ∧ z.2.2.2.2.2.2.1 ≤ R.slots) ∧ (∀ q, z.2.2.2.2.1 q → z.2.2.2.2.2.2.2.2 q) ∧ ∀ (v : Option Value) (f : gF) (g : gG) (H : Heap) (locs : List Loc), Rv v f g → gX z f g H locs → ∀ t : State, t.heap = H → z.1.2.2.2.2.WarmedH t.vm → z.2.2.2.2.2.2.2.1 z.2.1.2.1 z.1.2.2.2.2 (.returned v) t
theorem gMet.of {l : Launch} {y : MethodName} {cc : ByteArray} {L : Nat} {ret : Option FieldType} {fr lo : Nat} {D : va_G} {d dL : ClassId} {ci : Nat} {a : Nat → Nat} {av : List Value} {f : gF} {g : gG} {Rv : Option Value → gF → gG → Prop} (hy : plainName y.cls = true) (hlen : (lg_sl av).length ≤ L)
    (body : ∀ z : gZ, gOK z l cc y.cls ci a D d dL L ret Rv ({ frames := fr, cells := 0, slots := 0, locals := lo }) → J z f g 0 (lv_args 0 av) []) : gMet l y cc L ret fr lo D d dL ci a av f g Rv := by
  refine Met.ofW (cc := cc) (maxL := L) (ret := ret) hy rfl ?_
  intro p e s m args below meth c s₁ B hml hv
  obtain ⟨rfl, hP, hK, hD0⟩ := hv
  have hts := atoms_spec (ws := ws_ y cc L ret) B.pre
  have hts : ∀ w ∈ lw_all, w.before _ s = true := fun w h => hts w (List.mem_cons_of_mem _ h)
  have hown : s.vm.findClass y.cls = some m.cls := findClass_of_methodNamed B.named
  have hl := lv_entry av (n := L) hlen
  rw [lg_entry_eq]
  exact body ((p, l, e, _, s), (m, av.toArray, below, meth, c, L), (D, d, dL, ci, a), Rv, gA a, 0, 0, gQ D d dL ci a Rv, gA a) ⟨B.exec, B.bytes, hown, hts, hml, B.notSynchronized, B.returns, rfl, rfl, rfl, rfl, rfl, rfl, rfl, rfl, rfl, fun _ h => h, ⟨Nat.zero_le _, Nat.zero_le _⟩, fun _ h => h, fun v f g H locs h hX t ht hW => ⟨⟨v, f, g, rfl, h, by rw [ht]; exact hX.2.1, va_K.moved hW.alike hX.1, hX.2.2.1.weaken (fun _ _ _ _ => trivial)⟩, hX.2.2.2.F ht⟩⟩ s.heap [] _ ⟨hK, hP, gw_D hD0, va_S.rf⟩ hl
section Rules
variable {z : gZ} {l : Launch} {cc : ByteArray} {own : String} {ci : Nat} {a : Nat → Nat} {D : va_G} {d dL : ClassId} {nL : Nat} {ret : Option FieldType} {Rv : Option Value → gF → gG → Prop} {R : Room} {f : gF} {g : gG} {pc : Nat} {lv : List (Nat × Value)} {st : List Value}
theorem J.perm {lv' : List (Nat × Value)} (ks : List Nat) (hl : lv_pick lv ks = lv') (kk : J z f g pc lv' st) : J z f g pc lv st := fun H locs ls hX h => kk H locs ls hX (lv_sub h ks hl)
theorem J.eqi {x y : Int32} (h : x = y) (kk : J z f g pc lv (.int y :: st)) : J z f g pc lv (.int x :: st) := h ▸ kk
theorem J.eql {x y : Int64} (h : x = y) (kk : J z f g pc lv (.long y :: st)) : J z f g pc lv (.long x :: st) := h ▸ kk
theorem J.eqs {st' : List Value} (h : st = st') (kk : J z f g pc lv st') : J z f g pc lv st := h ▸ kk
theorem J.eqf {f' : gF} (h : f = f') (kk : J z f' g pc lv st) : J z f g pc lv st := h ▸ kk
theorem J.iconst (C : gOK z l cc own ci a D d dL nL ret Rv R) {n : Int} {v : Int32} (hdg : decode cc pc = .ok (.iconst n, 1)) (hv : Int32.ofInt n = v) (kk : J z f g (pc + 1) lv (.int v :: st)) : J z f g pc lv st := fun H locs ls hX h => lv_iconst C.1 C.2.1 hdg hv (kk H locs ls hX h)
theorem J.bipush (C : gOK z l cc own ci a D d dL nL ret Rv R) {n : Int} {v : Int32} (hdg : decode cc pc = .ok (.bipush n, 2)) (hv : (Int8.ofInt n).toInt32 = v) (kk : J z f g (pc + 2) lv (.int v :: st)) : J z f g pc lv st := fun H locs ls hX h => lv_bipush C.1 C.2.1 hdg hv (kk H locs ls hX h)
theorem J.sipush (C : gOK z l cc own ci a D d dL nL ret Rv R) {n : Int} {v : Int32} (hdg : decode cc pc = .ok (.sipush n, 3)) (hv : (Int16.ofInt n).toInt32 = v) (kk : J z f g (pc + 3) lv (.int v :: st)) : J z f g pc lv st := fun H locs ls hX h => lv_sipush C.1 C.2.1 hdg hv (kk H locs ls hX h)
theorem J.lconst (C : gOK z l cc own ci a D d dL nL ret Rv R) {n : Fin 2} {v : Int64} (hdg : decode cc pc = .ok (.lconst n, 1)) (hv : Int64.ofNat (n : Nat) = v) (kk : J z f g (pc + 1) lv (.long v :: st)) : J z f g pc lv st := fun H locs ls hX h => lv_lconst C.1 C.2.1 hdg hv (kk H locs ls hX h)
theorem J.ldc (C : gOK z l cc own ci a D d dL nL ret Rv R) {index : Nat} {v : Int32} (hw : Cond.constant own index v ∈ lw_all) (hdg : decode cc pc = .ok (.ldc index, 2)) (kk : J z f g (pc + 2) lv (.int v :: st)) : J z f g pc lv st := fun H locs ls hX h => lv_ldc C.1 C.2.1 C.2.2.1 (C.2.2.2.1 _ hw) hdg (kk H locs ls hX h)
theorem J.ldc2 (C : gOK z l cc own ci a D d dL nL ret Rv R) {index : Nat} {v : Int64} (hw : Cond.constantLong own index v ∈ lw_all) (hdg : decode cc pc = .ok (.ldc2_w index, 3)) (kk : J z f g (pc + 3) lv (.long v :: st)) : J z f g pc lv st := fun H locs ls hX h => lv_ldc2 C.1 C.2.1 C.2.2.1 (C.2.2.2.1 _ hw) hdg (kk H locs ls hX h)
theorem J.iload_n (C : gOK z l cc own ci a D d dL nL ret Rv R) {k : Fin 4} {i : Nat} {x : Int32} (hdg : decode cc pc = .ok (.iload_n k, 1)) (hi : (k : Nat) = i) (q : Nat) (hq : lv[q]? = some (i, .int x)) (kk : J z f g (pc + 1) lv (.int x :: st)) : J z f g pc lv st := fun H locs ls hX h => lv_iload_n C.1 C.2.1 hdg hi (lv_at h q hq) (kk H locs ls hX h)
theorem J.iload (C : gOK z l cc own ci a D d dL nL ret Rv R) {i : Nat} {x : Int32} (hdg : decode cc pc = .ok (.iload i, 2)) (q : Nat) (hq : lv[q]? = some (i, .int x)) (kk : J z f g (pc + 2) lv (.int x :: st)) : J z f g pc lv st := fun H locs ls hX h => lv_iload C.1 C.2.1 hdg (lv_at h q hq) (kk H locs ls hX h)
theorem J.lload_n (C : gOK z l cc own ci a D d dL nL ret Rv R) {k : Fin 4} {i : Nat} {x : Int64} (hdg : decode cc pc = .ok (.lload_n k, 1)) (hi : (k : Nat) = i) (q : Nat) (hq : lv[q]? = some (i, .long x)) (kk : J z f g (pc + 1) lv (.long x :: st)) : J z f g pc lv st := fun H locs ls hX h => lv_lload_n C.1 C.2.1 hdg hi (lv_at h q hq) (kk H locs ls hX h)
theorem J.lload (C : gOK z l cc own ci a D d dL nL ret Rv R) {i : Nat} {x : Int64} (hdg : decode cc pc = .ok (.lload i, 2)) (q : Nat) (hq : lv[q]? = some (i, .long x)) (kk : J z f g (pc + 2) lv (.long x :: st)) : J z f g pc lv st := fun H locs ls hX h => lv_lload C.1 C.2.1 hdg (lv_at h q hq) (kk H locs ls hX h)
theorem J.aload_n (C : gOK z l cc own ci a D d dL nL ret Rv R) {k : Fin 4} {i : Nat} {x : Nat} (hdg : decode cc pc = .ok (.aload_n k, 1)) (hi : (k : Nat) = i) (q : Nat) (hq : lv[q]? = some (i, .ref x)) (kk : J z f g (pc + 1) lv (.ref x :: st)) : J z f g pc lv st := fun H locs ls hX h => lv_aload_n C.1 C.2.1 hdg hi (lv_at h q hq) (kk H locs ls hX h)
theorem J.aload (C : gOK z l cc own ci a D d dL nL ret Rv R) {i : Nat} {x : Nat} (hdg : decode cc pc = .ok (.aload i, 2)) (q : Nat) (hq : lv[q]? = some (i, .ref x)) (kk : J z f g (pc + 2) lv (.ref x :: st)) : J z f g pc lv st := fun H locs ls hX h => lv_aload C.1 C.2.1 hdg (lv_at h q hq) (kk H locs ls hX h)
theorem J.istore_n (C : gOK z l cc own ci a D d dL nL ret Rv R) {k : Fin 4} {i : Nat} {x : Int32} {lv' : List (Nat × Value)} (hdg : decode cc pc = .ok (.istore_n k, 1)) (hi : (k : Nat) = i) (hn : i < nL) (hl : (i, Value.int x) :: lv.filter (fun q => !(q.1 == i) && !(q.1 + 1 == i && q.2.category == 2)) = lv') (kk : J z f g (pc + 1) lv' st) : J z f g pc lv (.int x :: st) := by
  obtain ⟨hx, hb, -, -, -, -, -, -, -, -, -, -, -, rfl, -, -⟩ := C
  exact fun H locs ls hX h => lv_istore_n hx hb hdg hi h hn hl (fun ls' h' => kk H locs ls' hX h')
theorem J.istore (C : gOK z l cc own ci a D d dL nL ret Rv R) {i : Nat} {x : Int32} {lv' : List (Nat × Value)} (hdg : decode cc pc = .ok (.istore i, 2)) (hn : i < nL) (hl : (i, Value.int x) :: lv.filter (fun q => !(q.1 == i) && !(q.1 + 1 == i && q.2.category == 2)) = lv') (kk : J z f g (pc + 2) lv' st) : J z f g pc lv (.int x :: st) := by
  obtain ⟨hx, hb, -, -, -, -, -, -, -, -, -, -, -, rfl, -, -⟩ := C
  exact fun H locs ls hX h => lv_istore hx hb hdg h hn hl (fun ls' h' => kk H locs ls' hX h')
theorem J.lstore_n (C : gOK z l cc own ci a D d dL nL ret Rv R) {k : Fin 4} {i : Nat} {x : Int64} {lv' : List (Nat × Value)} (hdg : decode cc pc = .ok (.lstore_n k, 1)) (hi : (k : Nat) = i) (hn : i + 1 < nL) (hl : (i, Value.long x) :: lv.filter (fun q => !(q.1 == i) && (!(q.1 == i + 1) && !(q.1 + 1 == i && q.2.category == 2))) = lv') (kk : J z f g (pc + 1) lv' st) : J z f g pc lv (.long x :: st) := by
  obtain ⟨hx, hb, -, -, -, -, -, -, -, -, -, -, -, rfl, -, -⟩ := C
  exact fun H locs ls hX h => lv_lstore_n hx hb hdg hi h hn hl (fun ls' h' => kk H locs ls' hX h')
theorem J.lstore (C : gOK z l cc own ci a D d dL nL ret Rv R) {i : Nat} {x : Int64} {lv' : List (Nat × Value)} (hdg : decode cc pc = .ok (.lstore i, 2)) (hn : i + 1 < nL) (hl : (i, Value.long x) :: lv.filter (fun q => !(q.1 == i) && (!(q.1 == i + 1) && !(q.1 + 1 == i && q.2.category == 2))) = lv') (kk : J z f g (pc + 2) lv' st) : J z f g pc lv (.long x :: st) := by
  obtain ⟨hx, hb, -, -, -, -, -, -, -, -, -, -, -, rfl, -, -⟩ := C
  exact fun H locs ls hX h => lv_lstore hx hb hdg h hn hl (fun ls' h' => kk H locs ls' hX h')
theorem J.iinc (C : gOK z l cc own ci a D d dL nL ret Rv R) {i : Nat} {n : Int} {x v : Int32} {lv' : List (Nat × Value)} (hdg : decode cc pc = .ok (.iinc i n, 3)) (q : Nat) (hq : lv[q]? = some (i, .int x)) (hv : x + Int32.ofInt n = v) (hn : i < nL) (hl : (i, Value.int v) :: lv.filter (fun q => !(q.1 == i) && !(q.1 + 1 == i && q.2.category == 2)) = lv') (kk : J z f g (pc + 3) lv' st) : J z f g pc lv st := by
  obtain ⟨hx, hb, -, -, -, -, -, -, -, -, -, -, -, rfl, -, -⟩ := C
  exact fun H locs ls hX h => lv_iinc hx hb hdg h (k := q) hq hv hn hl (fun ls' h' => kk H locs ls' hX h')
theorem J.iadd (C : gOK z l cc own ci a D d dL nL ret Rv R) {x y : Int32} (hdg : decode cc pc = .ok (.iadd, 1)) (kk : J z f g (pc + 1) lv (.int (x + y) :: st)) : J z f g pc lv (.int y :: .int x :: st) := fun H locs ls hX h => lv_iadd C.1 C.2.1 hdg (kk H locs ls hX h)
theorem J.isub (C : gOK z l cc own ci a D d dL nL ret Rv R) {x y : Int32} (hdg : decode cc pc = .ok (.isub, 1)) (kk : J z f g (pc + 1) lv (.int (x - y) :: st)) : J z f g pc lv (.int y :: .int x :: st) := fun H locs ls hX h => lv_isub C.1 C.2.1 hdg (kk H locs ls hX h)
theorem J.imul (C : gOK z l cc own ci a D d dL nL ret Rv R) {x y : Int32} (hdg : decode cc pc = .ok (.imul, 1)) (kk : J z f g (pc + 1) lv (.int (x * y) :: st)) : J z f g pc lv (.int y :: .int x :: st) := fun H locs ls hX h => lv_imul C.1 C.2.1 hdg (kk H locs ls hX h)
theorem J.iand (C : gOK z l cc own ci a D d dL nL ret Rv R) {x y : Int32} (hdg : decode cc pc = .ok (.iand, 1)) (kk : J z f g (pc + 1) lv (.int (x &&& y) :: st)) : J z f g pc lv (.int y :: .int x :: st) := fun H locs ls hX h => lv_iand C.1 C.2.1 hdg (kk H locs ls hX h)
theorem J.ior (C : gOK z l cc own ci a D d dL nL ret Rv R) {x y : Int32} (hdg : decode cc pc = .ok (.ior, 1)) (kk : J z f g (pc + 1) lv (.int (x ||| y) :: st)) : J z f g pc lv (.int y :: .int x :: st) := fun H locs ls hX h => lv_ior C.1 C.2.1 hdg (kk H locs ls hX h)
theorem J.irem (C : gOK z l cc own ci a D d dL nL ret Rv R) {x y : Int32} (hdg : decode cc pc = .ok (.irem, 1)) (hne : ¬ y = 0) (kk : J z f g (pc + 1) lv (.int (x - x / y * y) :: st)) : J z f g pc lv (.int y :: .int x :: st) := fun H locs ls hX h => lv_irem C.1 C.2.1 hdg hne (kk H locs ls hX h)
theorem J.ishl (C : gOK z l cc own ci a D d dL nL ret Rv R) {x y : Int32} (hdg : decode cc pc = .ok (.ishl, 1)) (kk : J z f g (pc + 1) lv (.int (x <<< (y &&& 31)) :: st)) : J z f g pc lv (.int y :: .int x :: st) := fun H locs ls hX h => lv_ishl C.1 C.2.1 hdg (kk H locs ls hX h)
theorem J.ishr (C : gOK z l cc own ci a D d dL nL ret Rv R) {x y : Int32} (hdg : decode cc pc = .ok (.ishr, 1)) (kk : J z f g (pc + 1) lv (.int (x >>> (y &&& 31)) :: st)) : J z f g pc lv (.int y :: .int x :: st) := fun H locs ls hX h => lv_ishr C.1 C.2.1 hdg (kk H locs ls hX h)
theorem J.iushr (C : gOK z l cc own ci a D d dL nL ret Rv R) {x y : Int32} (hdg : decode cc pc = .ok (.iushr, 1)) (kk : J z f g (pc + 1) lv (.int ((x.toUInt32 >>> (y.toUInt32 &&& Int32.toUInt32 31)).toInt32) :: st)) : J z f g pc lv (.int y :: .int x :: st) := fun H locs ls hX h => lv_iushr C.1 C.2.1 hdg rfl (kk H locs ls hX h)
theorem J.ladd (C : gOK z l cc own ci a D d dL nL ret Rv R) {x y : Int64} (hdg : decode cc pc = .ok (.ladd, 1)) (kk : J z f g (pc + 1) lv (.long (x + y) :: st)) : J z f g pc lv (.long y :: .long x :: st) := fun H locs ls hX h => lv_ladd C.1 C.2.1 hdg (kk H locs ls hX h)
theorem J.lsub (C : gOK z l cc own ci a D d dL nL ret Rv R) {x y : Int64} (hdg : decode cc pc = .ok (.lsub, 1)) (kk : J z f g (pc + 1) lv (.long (x - y) :: st)) : J z f g pc lv (.long y :: .long x :: st) := fun H locs ls hX h => lv_lsub C.1 C.2.1 hdg (kk H locs ls hX h)
theorem J.lmul (C : gOK z l cc own ci a D d dL nL ret Rv R) {x y : Int64} (hdg : decode cc pc = .ok (.lmul, 1)) (kk : J z f g (pc + 1) lv (.long (x * y) :: st)) : J z f g pc lv (.long y :: .long x :: st) := fun H locs ls hX h => lv_lmul C.1 C.2.1 hdg (kk H locs ls hX h)
theorem J.land (C : gOK z l cc own ci a D d dL nL ret Rv R) {x y : Int64} (hdg : decode cc pc = .ok (.land, 1)) (kk : J z f g (pc + 1) lv (.long (x &&& y) :: st)) : J z f g pc lv (.long y :: .long x :: st) := fun H locs ls hX h => lv_land C.1 C.2.1 hdg (kk H locs ls hX h)
theorem J.lshr (C : gOK z l cc own ci a D d dL nL ret Rv R) {x : Int64} {y : Int32} (hdg : decode cc pc = .ok (.lshr, 1)) (kk : J z f g (pc + 1) lv (.long (x >>> (y.toInt64 &&& 63)) :: st)) : J z f g pc lv (.int y :: .long x :: st) := fun H locs ls hX h => lv_lshr C.1 C.2.1 hdg rfl (kk H locs ls hX h)
theorem J.lushr (C : gOK z l cc own ci a D d dL nL ret Rv R) {x : Int64} {y : Int32} (hdg : decode cc pc = .ok (.lushr, 1)) (kk : J z f g (pc + 1) lv (.long ((x.toUInt64 >>> (y.toInt64.toUInt64 &&& Int64.toUInt64 63)).toInt64) :: st)) : J z f g pc lv (.int y :: .long x :: st) := fun H locs ls hX h => lv_lushr C.1 C.2.1 hdg rfl (kk H locs ls hX h)
theorem J.i2l (C : gOK z l cc own ci a D d dL nL ret Rv R) {x : Int32} (hdg : decode cc pc = .ok (.i2l, 1)) (kk : J z f g (pc + 1) lv (.long x.toInt64 :: st)) : J z f g pc lv (.int x :: st) := fun H locs ls hX h => lv_i2l C.1 C.2.1 hdg rfl (kk H locs ls hX h)
theorem J.l2i (C : gOK z l cc own ci a D d dL nL ret Rv R) {x : Int64} (hdg : decode cc pc = .ok (.l2i, 1)) (kk : J z f g (pc + 1) lv (.int x.toInt32 :: st)) : J z f g pc lv (.long x :: st) := fun H locs ls hX h => lv_l2i C.1 C.2.1 hdg rfl (kk H locs ls hX h)
theorem J.lcmp (C : gOK z l cc own ci a D d dL nL ret Rv R) {x y : Int64} (hdg : decode cc pc = .ok (.lcmp, 1)) (kk : J z f g (pc + 1) lv (.int (lg_cmp x y) :: st)) : J z f g pc lv (.long y :: .long x :: st) := fun H locs ls hX h => W.lcmp C.1 C.2.1 hdg (kk H locs ls hX h)
theorem J.dup (C : gOK z l cc own ci a D d dL nL ret Rv R) {v : Value} (hdg : decode cc pc = .ok (.dup, 1)) (hv : v.category = 1) (kk : J z f g (pc + 1) lv (v :: v :: st)) : J z f g pc lv (v :: st) := fun H locs ls hX h => lv_dup C.1 C.2.1 hdg hv (kk H locs ls hX h)
theorem J.pop (C : gOK z l cc own ci a D d dL nL ret Rv R) {v : Value} (hdg : decode cc pc = .ok (.pop, 1)) (hv : v.category = 1) (kk : J z f g (pc + 1) lv st) : J z f g pc lv (v :: st) := fun H locs ls hX h => lv_pop C.1 C.2.1 hdg hv (kk H locs ls hX h)
theorem J.dup2 (C : gOK z l cc own ci a D d dL nL ret Rv R) {v w : Value} (hdg : decode cc pc = .ok (.dup2, 1)) (hv : v.category = 1) (hw : w.category = 1) (kk : J z f g (pc + 1) lv (v :: w :: v :: w :: st)) : J z f g pc lv (v :: w :: st) := fun H locs ls hX h => lv_dup2_11 C.1 C.2.1 hdg hv hw (kk H locs ls hX h)
theorem J.goto (C : gOK z l cc own ci a D d dL nL ret Rv R) {off : Int} {tgt : Nat} (hdg : decode cc pc = .ok (.goto off, 3)) (ht : (pc : Int) + off = (tgt : Int)) (kk : J z f g tgt lv st) : J z f g pc lv st := fun H locs ls hX h => lv_goto C.1 C.2.1 hdg ht (kk H locs ls hX h)
theorem J.if_eq (C : gOK z l cc own ci a D d dL nL ret Rv R) {x : Int32} {off : Int} {tgt : Nat} (hdg : decode cc pc = .ok (.ifCond .eq off, 3)) (ht : (pc : Int) + off = (tgt : Int)) (kt : x = 0 → J z f g tgt lv st) (kf : ¬ x = 0 → J z f g (pc + 3) lv st) : J z f g pc lv (.int x :: st) := fun H locs ls hX h => lv_if_eq C.1 C.2.1 hdg ht (fun c => kt c H locs ls hX h) (fun c => kf c H locs ls hX h)
theorem J.if_ne (C : gOK z l cc own ci a D d dL nL ret Rv R) {x : Int32} {off : Int} {tgt : Nat} (hdg : decode cc pc = .ok (.ifCond .ne off, 3)) (ht : (pc : Int) + off = (tgt : Int)) (kt : ¬ x = 0 → J z f g tgt lv st) (kf : x = 0 → J z f g (pc + 3) lv st) : J z f g pc lv (.int x :: st) := fun H locs ls hX h => lv_if_ne C.1 C.2.1 hdg ht (fun c => kt c H locs ls hX h) (fun c => kf (by simpa using c) H locs ls hX h)
theorem J.if_lt (C : gOK z l cc own ci a D d dL nL ret Rv R) {x : Int32} {off : Int} {tgt : Nat} (hdg : decode cc pc = .ok (.ifCond .lt off, 3)) (ht : (pc : Int) + off = (tgt : Int)) (kt : x < 0 → J z f g tgt lv st) (kf : ¬ x < 0 → J z f g (pc + 3) lv st) : J z f g pc lv (.int x :: st) := fun H locs ls hX h => lv_if_lt C.1 C.2.1 hdg ht (fun c => kt c H locs ls hX h) (fun c => kf c H locs ls hX h)
theorem J.if_ge (C : gOK z l cc own ci a D d dL nL ret Rv R) {x : Int32} {off : Int} {tgt : Nat} (hdg : decode cc pc = .ok (.ifCond .ge off, 3)) (ht : (pc : Int) + off = (tgt : Int)) (kt : 0 ≤ x → J z f g tgt lv st) (kf : ¬ 0 ≤ x → J z f g (pc + 3) lv st) : J z f g pc lv (.int x :: st) := fun H locs ls hX h => lv_if_ge C.1 C.2.1 hdg ht (fun c => kt c H locs ls hX h) (fun c => kf c H locs ls hX h)
theorem J.if_le (C : gOK z l cc own ci a D d dL nL ret Rv R) {x : Int32} {off : Int} {tgt : Nat} (hdg : decode cc pc = .ok (.ifCond .le off, 3)) (ht : (pc : Int) + off = (tgt : Int)) (kt : x ≤ 0 → J z f g tgt lv st) (kf : ¬ x ≤ 0 → J z f g (pc + 3) lv st) : J z f g pc lv (.int x :: st) := fun H locs ls hX h => lv_if_le C.1 C.2.1 hdg ht (fun c => kt c H locs ls hX h) (fun c => kf c H locs ls hX h)
theorem J.icmp_eq (C : gOK z l cc own ci a D d dL nL ret Rv R) {x y : Int32} {off : Int} {tgt : Nat} (hdg : decode cc pc = .ok (.if_icmp .eq off, 3)) (ht : (pc : Int) + off = (tgt : Int)) (kt : x = y → J z f g tgt lv st) (kf : ¬ x = y → J z f g (pc + 3) lv st) : J z f g pc lv (.int y :: .int x :: st) := fun H locs ls hX h => lv_icmp_eq C.1 C.2.1 hdg ht (fun c => kt c H locs ls hX h) (fun c => kf c H locs ls hX h)
theorem J.icmp_ne (C : gOK z l cc own ci a D d dL nL ret Rv R) {x y : Int32} {off : Int} {tgt : Nat} (hdg : decode cc pc = .ok (.if_icmp .ne off, 3)) (ht : (pc : Int) + off = (tgt : Int)) (kt : ¬ x = y → J z f g tgt lv st) (kf : x = y → J z f g (pc + 3) lv st) : J z f g pc lv (.int y :: .int x :: st) := fun H locs ls hX h => lv_icmp_ne C.1 C.2.1 hdg ht (fun c => kt c H locs ls hX h) (fun c => kf (by simpa using c) H locs ls hX h)
theorem J.icmp_lt (C : gOK z l cc own ci a D d dL nL ret Rv R) {x y : Int32} {off : Int} {tgt : Nat} (hdg : decode cc pc = .ok (.if_icmp .lt off, 3)) (ht : (pc : Int) + off = (tgt : Int)) (kt : x < y → J z f g tgt lv st) (kf : ¬ x < y → J z f g (pc + 3) lv st) : J z f g pc lv (.int y :: .int x :: st) := fun H locs ls hX h => lv_icmp_lt C.1 C.2.1 hdg ht (fun c => kt c H locs ls hX h) (fun c => kf c H locs ls hX h)
theorem J.icmp_ge (C : gOK z l cc own ci a D d dL nL ret Rv R) {x y : Int32} {off : Int} {tgt : Nat} (hdg : decode cc pc = .ok (.if_icmp .ge off, 3)) (ht : (pc : Int) + off = (tgt : Int)) (kt : y ≤ x → J z f g tgt lv st) (kf : ¬ y ≤ x → J z f g (pc + 3) lv st) : J z f g pc lv (.int y :: .int x :: st) := fun H locs ls hX h => lv_icmp_ge C.1 C.2.1 hdg ht (fun c => kt c H locs ls hX h) (fun c => kf c H locs ls hX h)
theorem J.icmp_gt (C : gOK z l cc own ci a D d dL nL ret Rv R) {x y : Int32} {off : Int} {tgt : Nat} (hdg : decode cc pc = .ok (.if_icmp .gt off, 3)) (ht : (pc : Int) + off = (tgt : Int)) (kt : y < x → J z f g tgt lv st) (kf : ¬ y < x → J z f g (pc + 3) lv st) : J z f g pc lv (.int y :: .int x :: st) := fun H locs ls hX h => lv_icmp_gt C.1 C.2.1 hdg ht (fun c => kt c H locs ls hX h) (fun c => kf c H locs ls hX h)
/-- the same over numbers: x = nI m, y = nI n -/
theorem J.ncmp_ge (C : gOK z l cc own ci a D d dL nL ret Rv R) {m n : Nat} {off : Int} {tgt : Nat} (hdg : decode cc pc = .ok (.if_icmp .ge off, 3)) (ht : (pc : Int) + off = (tgt : Int)) (hm : m < 2 ^ 31) (hn : n < 2 ^ 31) (kt : n ≤ m → J z f g tgt lv st) (kf : m < n → J z f g (pc + 3) lv st) : J z f g pc lv (.int (nI n) :: .int (nI m) :: st) := J.icmp_ge C hdg ht (fun c => kt ((nI_leI hn hm).mp c)) (fun c => kf (Nat.lt_of_not_le fun q => c ((nI_leI hn hm).mpr q)))
theorem J.iald (C : gOK z l cc own ci a D d dL nL ret Rv R) {i k : Nat} (hi : gOk ci i) (hk : k < gLen ci i) (hdg : decode cc pc = .ok (.iaload, 1)) (kk : J z f g (pc + 1) lv (.int (f i k) :: st)) : J z f g pc lv (.int (nI k) :: .ref (a i) :: st) := by
  obtain ⟨hx, hb, -, -, -, -, -, -, rfl, rfl, -, -, -, -, -, -⟩ := C
  have h31 : gLen z.2.2.1.2.2.2.1 i < 2 ^ 31 := by unfold gLen; split <;> (repeat' split) <;> decide
  refine fun H locs ls hX h => va_iald hx hb hX.1 hX.2.1 i 0 (gw_at hi) rfl (vp_in_nI hk h31) hdg ?_
  rw [nI_clamp (Nat.lt_trans hk h31)]
  exact kk H locs ls hX h
theorem J.iast (C : gOK z l cc own ci a D d dL nL ret Rv R) {i k : Nat} {x : Int32} (hi : gOk ci i) (hk : k < gLen ci i) (hdg : decode cc pc = .ok (.iastore, 1)) (kk : J z (va_up f i (upd (f i) k x)) g (pc + 1) lv st) : J z f g pc lv (.int x :: .int (nI k) :: .ref (a i) :: st) := by
  obtain ⟨hx, hb, -, -, -, -, -, -, rfl, rfl, -, -, -, -, -, -⟩ := C
  have h31 : gLen z.2.2.1.2.2.2.1 i < 2 ^ 31 := by unfold gLen; split <;> (repeat' split) <;> decide
  refine fun H locs ls hX h => va_iast hx hb hX.1 hX.2.1 hX.2.2.1 hX.2.2.2 i 0 (gw_at hi) rfl (vp_in_nI hk h31) hdg (fun H1 locs1 hP hD hS => ?_)
  rw [nI_clamp (Nat.lt_trans hk h31), gw_set hi] at hP hD
  exact kk H1 locs1 ls ⟨hX.1, hP, hD, hS⟩ h
theorem J.lald (C : gOK z l cc own 0 a D d dL nL ret Rv R) {k : Nat} (hk : k < 14) (hdg : decode cc pc = .ok (.laload, 1)) (kk : J z f g (pc + 1) lv (.long (g k) :: st)) : J z f g pc lv (.int (nI k) :: .ref (a 5) :: st) := by
  obtain ⟨hx, hb, -, -, -, -, -, -, hci, rfl, -, -, -, -, -, -⟩ := C
  refine fun H locs ls hX h => va_lald hx hb hX.1 hX.2.1 5 1 (by rw [hci]; exact gw_atL) rfl (vp_in_nI hk (by decide)) hdg ?_
  rw [nI_clamp (Nat.lt_trans hk (by decide))]
  exact kk H locs ls hX h
theorem J.last (C : gOK z l cc own 0 a D d dL nL ret Rv R) {k : Nat} {x : Int64} (hk : k < 14) (hdg : decode cc pc = .ok (.lastore, 1)) (kk : J z f (vp_updL g k x) (pc + 1) lv st) : J z f g pc lv (.long x :: .int (nI k) :: .ref (a 5) :: st) := by
  obtain ⟨hx, hb, -, -, -, -, -, -, hci, rfl, -, -, -, -, -, -⟩ := C
  refine fun H locs ls hX h => va_last hx hb hX.1 hX.2.1 hX.2.2.1 hX.2.2.2 5 1 (by rw [hci]; exact gw_atL) rfl (vp_in_nI hk (by decide)) hdg (fun H1 locs1 hP hD hS => ?_)
  rw [nI_clamp (Nat.lt_trans hk (by decide)), hci, gw_setL] at hP hD
  exact kk H1 locs1 ls ⟨hX.1, by rw [hci]; exact hP, by rw [hci]; exact hD, hS⟩ h
theorem J.lalen (C : gOK z l cc own 0 a D d dL nL ret Rv R) (hdg : decode cc pc = .ok (.arraylength, 1)) (kk : J z f g (pc + 1) lv (.int (nI 14) :: st)) : J z f g pc lv (.ref (a 5) :: st) := by
  obtain ⟨hx, hb, -, -, -, -, -, -, hci, rfl, -, -, -, -, -, -⟩ := C
  exact fun H locs ls hX h => va_alen (v := nI 14) hx hb hX.1 hX.2.1 5 1 (by rw [hci]; exact gw_atL) rfl rfl hdg (kk H locs ls hX h)
theorem J.get0 (C : gOK z l cc RX0 0 a D d dL nL ret Rv R) {index : Nat} (k : Nat) (hk : k < 12) (hlink : Cond.fieldLink RX0 index RX0 (TX0 k).2.1 (TX0 k).2.2.1 ∈ lw_all) (hdg : decode cc pc = .ok (.getfield index, 3)) (kk : J z f g (pc + 3) lv (.ref (a (k + 1)) :: st)) : J z f g pc lv (.ref (a 0) :: st) := by
  obtain ⟨hx, hb, hown, hts, -, -, -, -, hci, rfl, -, -, -, -, -, -⟩ := C
  have hn : (TX0 k).1 = RX0 := by
    rcases (show k = 0 ∨ k = 1 ∨ k = 2 ∨ k = 3 ∨ k = 4 ∨ k = 5 ∨ k = 6 ∨ k = 7 ∨ k = 8 ∨ k = 9 ∨ k = 10 ∨ k = 11 by omega) with rfl | rfl | rfl | rfl | rfl | rfl | rfl | rfl | rfl | rfl | rfl | rfl <;> rfl
  have hv : (gRefs z.2.2.1.2.2.2.2)[k]? = some (.ref (z.2.2.1.2.2.2.2 (k + 1))) := by
    rcases (show k = 0 ∨ k = 1 ∨ k = 2 ∨ k = 3 ∨ k = 4 ∨ k = 5 ∨ k = 6 ∨ k = 7 ∨ k = 8 ∨ k = 9 ∨ k = 10 ∨ k = 11 by omega) with rfl | rfl | rfl | rfl | rfl | rfl | rfl | rfl | rfl | rfl | rfl | rfl <;> rfl
  exact fun H locs ls hX h => va_get (C := RX0) (T := TX0) (N := 12) (ci := 0) hx hb hts in_X0 hown hX.1 hX.2.1 0 (by rw [hci]; exact gw_at0) rfl k hk (hts _ hlink) (fun x hh => by rw [hn] at hh; exact hh) hv hdg (kk H locs ls hX h)
theorem J.get1 (C : gOK z l cc RX1 1 a D d dL nL ret Rv R) {index : Nat} (k : Nat) (hk : k < 12) (hlink : Cond.fieldLink RX1 index RX1 (TX1 k).2.1 (TX1 k).2.2.1 ∈ lw_all) (hdg : decode cc pc = .ok (.getfield index, 3)) (kk : J z f g (pc + 3) lv (.ref (a (k + 1)) :: st)) : J z f g pc lv (.ref (a 0) :: st) := by
  obtain ⟨hx, hb, hown, hts, -, -, -, -, hci, rfl, -, -, -, -, -, -⟩ := C
  have hn : (TX1 k).1 = RX1 := by
    rcases (show k = 0 ∨ k = 1 ∨ k = 2 ∨ k = 3 ∨ k = 4 ∨ k = 5 ∨ k = 6 ∨ k = 7 ∨ k = 8 ∨ k = 9 ∨ k = 10 ∨ k = 11 by omega) with rfl | rfl | rfl | rfl | rfl | rfl | rfl | rfl | rfl | rfl | rfl | rfl <;> rfl
  have hv : (gRefs z.2.2.1.2.2.2.2)[k]? = some (.ref (z.2.2.1.2.2.2.2 (k + 1))) := by
    rcases (show k = 0 ∨ k = 1 ∨ k = 2 ∨ k = 3 ∨ k = 4 ∨ k = 5 ∨ k = 6 ∨ k = 7 ∨ k = 8 ∨ k = 9 ∨ k = 10 ∨ k = 11 by omega) with rfl | rfl | rfl | rfl | rfl | rfl | rfl | rfl | rfl | rfl | rfl | rfl <;> rfl
  exact fun H locs ls hX h => va_get (C := RX1) (T := TX1) (N := 12) (ci := 1) hx hb hts in_X1 hown hX.1 hX.2.1 0 (by rw [hci]; exact gw_at0) rfl k hk (hts _ hlink) (fun x hh => by rw [hn] at hh; exact hh) hv hdg (kk H locs ls hX h)
theorem J.vret (C : gOK z l cc own ci a D d dL nL none Rv R) (hdg : decode cc pc = .ok (.return_, 1)) (h : Rv none f g) : J z f g pc lv [] := by
  obtain ⟨hx, hb, -, -, -, hlk, hret, -, -, -, -, -, -, -, rfl, -, -, -, hfr, hq⟩ := C
  exact fun H locs ls hX hl => W.vret hx hb hret (fun t ht hW => hq _ f g H locs h hX t ht hW) (fun q hq => hfr _ (hX.2.2.2.2.2 q hq)) hdg hlk
theorem J.iret (C : gOK z l cc own ci a D d dL nL (some .int) Rv R) {v : Int32} (hdg : decode cc pc = .ok (.ireturn, 1)) (h : Rv (some (.int v)) f g) : J z f g pc lv [.int v] := by
  obtain ⟨hx, hb, -, -, -, hlk, hret, -, -, -, -, -, -, -, rfl, -, -, -, hfr, hq⟩ := C
  exact fun H locs ls hX hl => W.iret hx hb hret (fun t ht hW => hq _ f g H locs h hX t ht hW) (fun q hq => hfr _ (hX.2.2.2.2.2 q hq)) hdg hlk
theorem J.zret (C : gOK z l cc own ci a D d dL nL (some .boolean) Rv R) {v : Int32} (hv : narrow .boolean (.int v) = .int v) (hdg : decode cc pc = .ok (.ireturn, 1)) (h : Rv (some (.int v)) f g) : J z f g pc lv [.int v] := by
  obtain ⟨hx, hb, -, -, -, hlk, hret, -, -, -, -, -, -, -, rfl, -, -, -, hfr, hq⟩ := C
  exact fun H locs ls hX hl => W.zret hx hb hret hv (fun t ht hW => hq _ f g H locs h hX t ht hW) (fun q hq => hfr _ (hX.2.2.2.2.2 q hq)) hdg hlk
theorem gP_blind {av : List Value} {D : va_G} {d dL : ClassId} {ci : Nat} {a : Nat → Nat} {f : gF} {g : gG} : FrameBlind (va_Pc av (gP D d dL ci a f g)) := fun v U q mk h => ⟨h.1, h.2.1, va_K.moved (u := U) (U := U.calling q mk v) (Vm.Alike.refl U.vm) h.2.2.1, h.2.2.2⟩
theorem J.back {Rv' : Option Value → gF → gG → Prop} {rest : List Value} {av : Array Value} (C : gOK z l cc own ci a D d dL nL ret Rv R)
    (hr : ∀ (H : Heap) (locs : List Loc) (ls : Array Slot), gX z f g H locs → lv_has ls nL lv → va_Run z.1.1 z.1.2.1 z.1.2.2.1 z.1.2.2.2.1 z.1.2.2.2.2 z.2.1.1 z.2.1.2.1 z.2.1.2.2.1 z.2.1.2.2.2.1 z.2.1.2.2.2.2.1 H locs z.2.2.2.2.2.1 z.2.2.2.2.2.2.1 0 0 (F0 z.2.1.1 pc ls st) rest (gQ D d dL ci a Rv' av) (gA a))
    (kk : ∀ (v : Option Value) (f' : gF) (g' : gG), Rv' v f' g' → J z f' g' (pc + 3) lv (v.toList ++ rest)) : J z f g pc lv st := by
  obtain ⟨-, -, -, -, -, -, -, -, rfl, rfl, rfl, rfl, rfl, rfl, -, -, hAa, -⟩ := C
  intro H locs ls hX hl T hT X
  obtain ⟨v, st₀, t, T', L, h0, X', hL, e1, e2, ⟨⟨v', f', g', hv, hp, hb⟩, hz, hk⟩, stp⟩ := hr H locs ls hX hl T hT X
  cases hv
  rw [h0] at hz hk
  have hS := hX.2.2.2
  obtain ⟨t2, a1, b1⟩ := kk v f' g' hp T'.heap (locs ++ L) ls ⟨hX.1, by rw [e1]; exact hb.1, (gw_D hb.2.2).weaken (fun _ _ _ h => hAa _ h), Nat.le_trans hS.1 (by rw [e1]; exact hz), fun q h1 h2 => by rw [e1, hk q (Nat.lt_of_lt_of_le h1 hS.1) (fun z => h2 (hAa _ z))]; exact hS.2.1 q h1 h2, fun q hq => by
      rcases List.mem_append.mp hq with h | h
      · exact hS.2.2 q h
      · exact hAa _ (hL q h)⟩ hl T' rfl X'
  exact ⟨t2, stp t2 a1, b1⟩
/-- a static call -/
theorem J.callS (C : gOK z l cc own ci a D d dL nL ret Rv R) {y : MethodName} {cc' : ByteArray} {L' : Nat} {ret' : Option FieldType} {fr lo idx : Nat} {As rest : List Value} {Rv' : Option Value → gF → gG → Prop} (hM : gMet l y cc' L' ret' fr lo D d dL ci a As f g Rv')
    (h1 : Cond.methodLink own idx y ∈ lw_all) (h2 : Cond.static y ∈ lw_all) (h3 : Cond.initialized y.cls ∈ lw_all) (h4 : Cond.code y cc' L' ret' ∈ lw_all) (hd : y.cls ≠ "java/lang/invoke/MethodHandle" ∧ y.cls ≠ "java/lang/invoke/VarHandle" ∧ (parseMethodDescriptor y.desc).map (fun d => d.parameters.length) = some As.length) (hR : fr + 1 ≤ R.frames ∧ 8 + (L' + 11) + lo ≤ R.locals)
    (hst : st = As.reverse ++ rest) (hW : (rest.map fun v => v.category).sum ≤ 8) (hdg : decode cc pc = .ok (.invokestatic idx, 3)) (kk : ∀ (v : Option Value) (f' : gF) (g' : gG), Rv' v f' g' → J z f' g' (pc + 3) lv (v.toList ++ rest)) : J z f g pc lv st := by
  refine J.back (av := As.toArray) C (fun H locs ls hX hl => ?_) kk
  obtain ⟨hx, hb, hown, hts, hml, -, -, rfl, rfl, rfl, rfl, rfl, rfl, hnl, -, rfl, -, hcs, -⟩ := C
  exact va_runS (As := As) (rest := rest) (nL := nL) ⟨hx, hb, hml, hown, hts⟩ hM (va_cwS As.length hts (lw_S h1 h2 h3 h4) rfl rfl rfl hd hR) ⟨gP_blind, fun U hU hWm => ⟨rfl, by rw [hU]; exact hX.2.1, va_K.moved hWm.alike hX.1, hX.2.2.1.weaken (fun _ _ _ _ => trivial)⟩⟩ rfl rfl hl.1 hst (lv_room hW) hdg hcs
/-- a call through this -/
theorem J.callV (C : gOK z l cc own ci a D d dL nL ret Rv R) {K : String} {y : MethodName} {cc' : ByteArray} {L' : Nat} {ret' : Option FieldType} {fr lo idx : Nat} {As rest : List Value} {Rv' : Option Value → gF → gG → Prop} (hM : gMet l y cc' L' ret' fr lo D d dL ci a (.ref (a 0) :: As) f g Rv') (T : u_T) (hK : vwCl[ci]? = some (K, T, 12))
    (h1 : Cond.methodLink own idx y ∈ lw_all) (h2 : Cond.instanceMethod y ∈ lw_all) (h3 : Cond.selects K y y ∈ lw_all) (h3' : Cond.initialized K ∈ lw_all) (h4 : Cond.code y cc' L' ret' ∈ lw_all) (hd : y.cls = K ∧ y.cls ≠ "java/lang/invoke/MethodHandle" ∧ y.cls ≠ "java/lang/invoke/VarHandle" ∧ (parseMethodDescriptor y.desc).map (fun d => d.parameters.length) = some As.length) (hR : fr + 1 ≤ R.frames ∧ 8 + (L' + 11) + lo ≤ R.locals)
    (hst : st = As.reverse ++ .ref (a 0) :: rest) (hW : (rest.map fun v => v.category).sum ≤ 8) (hdg : decode cc pc = .ok (.invokevirtual idx, 3)) (kk : ∀ (v : Option Value) (f' : gF) (g' : gG), Rv' v f' g' → J z f' g' (pc + 3) lv (v.toList ++ rest)) : J z f g pc lv st := by
  refine J.back (av := (Value.ref (a 0) :: As).toArray) C (fun H locs ls hX hl => ?_) kk
  obtain ⟨hx, hb, hown, hts, hml, -, -, rfl, rfl, rfl, rfl, rfl, rfl, hnl, -, rfl, -, hcs, -⟩ := C
  exact va_runV (As := As) (rest := rest) (nL := nL) ⟨hx, hb, hml, hown, hts⟩ hM (cwV As.length hts (lw_V h1 h2 h3 h3' h4) rfl rfl rfl hd hR) ⟨gP_blind, va_recv hX.1 hX.2.1 hK gw_at0, fun U hU hWm => ⟨rfl, by rw [hU]; exact hX.2.1, va_K.moved hWm.alike hX.1, hX.2.2.1.weaken (fun _ _ _ _ => trivial)⟩⟩ rfl rfl hl.1 hst (lv_room hW) hdg hcs
/-- a loop whose counter goes up from k to N; what it does to the arrays stands in Inv, its locals in LV -/
theorem J.loop {head : Nat} (N : Nat) (Inv : Nat → gF → gG → Prop) (LV : Nat → List (Nat × Value)) (hexit : ∀ f g, Inv N f g → J z f g head (LV N) []) (hstep : ∀ k f g, k < N → Inv k f g → (∀ f' g', Inv (k + 1) f' g' → J z f' g' head (LV (k + 1)) []) → J z f g head (LV k) []) : ∀ (n k : Nat) (f : gF) (g : gG), k + n = N → Inv k f g → J z f g head (LV k) [] := by
  intro n
  induction n with
  | zero =>
    intro k f g h hI
    obtain rfl : k = N := by omega
    exact hexit f g hI
  | succ n ih =>
    intro k f g h hI
    exact hstep k f g (by omega) hI (fun f' g' h' => ih (k + 1) f' g' (by omega) h')
/-- a loop with a measure -/
theorem J.loopM {σ : Type} {head : Nat} (μ : σ → Nat) (Inv : σ → gF → gG → Prop) (LV : σ → List (Nat × Value)) (hstep : ∀ x f g, Inv x f g → (∀ x' f' g', Inv x' f' g' → μ x' < μ x → J z f' g' head (LV x') []) → J z f g head (LV x) []) : ∀ (n : Nat) (x : σ) (f : gF) (g : gG), μ x < n → Inv x f g → J z f g head (LV x) [] := by
  intro n
  induction n with
  | zero => intro x f g h; omega
  | succ n ih =>
    intro x f g h hI
    exact hstep x f g hI (fun x' f' g' h' hm => ih x' f' g' (by omega) h')
end Rules
end Frm
end
section
/-! words: Int32 and Int64 over numbers -/
section Wrd
theorem w_of (x : Int32) : ∃ n, n < 4294967296 ∧ x = nI n := ⟨x.toBitVec.toNat, x.toBitVec.isLt, Int32.toBitVec_inj.mp (by show _ = BitVec.ofNat 32 _; simp)⟩
theorem w_tn {n : Nat} (h : n < 4294967296) : (nI n).toBitVec.toNat = n := pk_tn h
theorem w_nn {x : Int32} : nI x.toBitVec.toNat = x := Int32.toBitVec_inj.mp (by show BitVec.ofNat 32 _ = _; simp)
theorem w_inj {a b : Nat} (ha : a < 4294967296) (hb : b < 4294967296) : nI a = nI b ↔ a = b := by
  constructor
  · intro h
    have h2 := congrArg (fun x : Int32 => x.toBitVec.toNat) h
    simp only [w_tn ha, w_tn hb] at h2
    exact h2
  · intro h
    rw [h]
theorem w_mod (n : Nat) : nI n = nI (n % 4294967296) := Int32.toBitVec_inj.mp (BitVec.eq_of_toNat_eq (by
  show (BitVec.ofNat 32 n).toNat = (BitVec.ofNat 32 (n % 4294967296)).toNat
  rw [BitVec.toNat_ofNat, BitVec.toNat_ofNat]
  omega))
theorem w_ltb (n : Nat) : (lN n).toBitVec = BitVec.ofNat 64 n := rfl
theorem w_linj {a b : Int64} (h : a.toBitVec.toNat = b.toBitVec.toNat) : a = b := Int64.toBitVec_inj.mp (BitVec.eq_of_toNat_eq h)
theorem w_ltn {n : Nat} (h : n < 18446744073709551616) : (lN n).toBitVec.toNat = n := by rw [w_ltb, BitVec.toNat_ofNat, Nat.mod_eq_of_lt h]
theorem w_M : (4294967295 : Int64) = lN 4294967295 := rfl
theorem w_land {n : Nat} (h : n < 18446744073709551616) : lN n &&& 4294967295 = lN (n % 4294967296) := by
  apply w_linj
  rw [Int64.toBitVec_and, BitVec.toNat_and, w_ltn h, w_ltn (by omega)]
  exact Nat.and_two_pow_sub_one_eq_mod n 32
theorem w_i2l {n : Nat} (h : n < 4294967296) : (nI n).toInt64 &&& 4294967295 = lN n := by
  have e : (nI n).toInt64 = Int64.ofInt (nI n).toInt := (Int64.ofInt_int32ToInt _).symm
  apply w_linj
  rw [Int64.toBitVec_and, BitVec.toNat_and, w_ltn (by omega), e, Int64.toBitVec_ofInt, BitVec.toNat_ofInt]
  have h1 : (nI n).toInt = if n < 2147483648 then (n : Int) else (n : Int) - 4294967296 := by
    show (BitVec.ofNat 32 n).toInt = _
    rw [BitVec.toInt_eq_toNat_cond, BitVec.toNat_ofNat, Nat.mod_eq_of_lt (show n < 2 ^ 32 from h)]
    split <;> split <;> omega
  rw [h1]
  show (_ : Nat) &&& 4294967295 = n
  rw [Nat.and_two_pow_sub_one_eq_mod _ 32]
  split <;> omega
theorem w_l2i (n : Nat) : (lN n).toInt32 = nI n := lN_i n
theorem w_lshr {n : Nat} (h : n < 9223372036854775808) : lN n >>> ((nI 32).toInt64 &&& 63) = lN (n / 4294967296) := by
  apply Int64.toInt_inj.mp
  have hD : (((nI 32).toInt64 &&& 63).toBitVec.smod 64).toNat = 32 := by decide +kernel
  have e : (lN n >>> ((nI 32).toInt64 &&& 63)).toInt = (lN n).toInt >>> (32 : Nat) := by
    rw [← hD]
    exact BitVec.toInt_sshiftRight ..
  rw [e, Int.shiftRight_eq_div_pow, pk_lT h, pk_lT (by omega)]
  rfl
theorem w_lushr {n : Nat} (h : n < 18446744073709551616) : ((lN n).toUInt64 >>> ((nI 32).toInt64.toUInt64 &&& Int64.toUInt64 63)).toInt64 = lN (n / 4294967296) := by
  have hD : ((nI 32).toInt64.toUInt64 &&& Int64.toUInt64 63).toNat % 64 = 32 := by decide +kernel
  apply w_linj
  rw [w_ltn (by omega)]
  show ((lN n).toUInt64 >>> ((nI 32).toInt64.toUInt64 &&& Int64.toUInt64 63)).toNat = _
  rw [UInt64.toNat_shiftRight, hD, Nat.shiftRight_eq_div_pow]
  show (lN n).toBitVec.toNat / _ = _
  rw [w_ltn h]
theorem w_lmod (n : Nat) : lN n = lN (n % 18446744073709551616) := w_linj (by
  rw [w_ltb, w_ltb, BitVec.toNat_ofNat, BitVec.toNat_ofNat]
  omega)
/-- Int64 and Int32 of an integer -/
def iL (z : Int) : Int64 := Int64.ofInt z
def iI (z : Int) : Int32 := Int32.ofInt z
theorem iL_N (n : Nat) : lN n = iL n := Int64.ofInt_eq_ofNat.symm
theorem iI_N (n : Nat) : nI n = iI n := Int32.ofInt_eq_ofNat.symm
theorem iL_add (x y : Int) : iL x + iL y = iL (x + y) := (Int64.ofInt_add x y).symm
theorem iL_sub (x y : Int) : iL x - iL y = iL (x - y) := (Int64.ofInt_sub x y).symm
theorem iI_add (x y : Int) : iI x + iI y = iI (x + y) := (Int32.ofInt_add x y).symm
theorem iI_sub (x y : Int) : iI x - iI y = iI (x - y) := (Int32.ofInt_sub x y).symm
theorem iI_neg (x : Int) : - iI x = iI (-x) := Int32.neg_ofInt
theorem iL_i (x : Int) : (iL x).toInt32 = iI x := Int64.toInt32_ofInt
theorem iI_nI {z : Int} {n : Nat} (h : z % 4294967296 = n) : iI z = nI n := Int32.toBitVec_inj.mp (BitVec.eq_of_toNat_eq (by
  show (BitVec.ofInt 32 z).toNat = (BitVec.ofNat 32 n).toNat
  rw [BitVec.toNat_ofInt, BitVec.toNat_ofNat]
  omega))
theorem iL_toInt {z : Int} (h1 : -9223372036854775808 ≤ z) (h2 : z < 9223372036854775808) : (iL z).toInt = z := Int64.toInt_ofInt_of_le h1 h2
theorem iI_toInt {z : Int} (h1 : -2147483648 ≤ z) (h2 : z < 2147483648) : (iI z).toInt = z := Int32.toInt_ofInt_of_le h1 h2
theorem iL_shr {z : Int} (h1 : -9223372036854775808 ≤ z) (h2 : z < 9223372036854775808) : iL z >>> ((nI 32).toInt64 &&& 63) = iL (z / 4294967296) := by
  apply Int64.toInt_inj.mp
  have hD : (((nI 32).toInt64 &&& 63).toBitVec.smod 64).toNat = 32 := by decide +kernel
  have e : (iL z >>> ((nI 32).toInt64 &&& 63)).toInt = (iL z).toInt >>> (32 : Nat) := by
    rw [← hD]
    exact BitVec.toInt_sshiftRight ..
  rw [e, Int.shiftRight_eq_div_pow, iL_toInt h1 h2, iL_toInt (by omega) (by omega)]
  rfl
theorem iI_shr16 {z : Int} (h1 : -2147483648 ≤ z) (h2 : z < 2147483648) : iI z >>> (nI 16 &&& 31) = iI (z / 65536) := by
  apply Int32.toInt_inj.mp
  rw [pk_shr _ _ 16 (by decide +kernel), Int.shiftRight_eq_div_pow, iI_toInt h1 h2, iI_toInt (by omega) (by omega)]
  rfl
theorem w_and {x m : Nat} (k : Nat) (hx : x < 4294967296) (hm : m = 2 ^ k - 1) (hk : k ≤ 32) : nI x &&& nI m = nI (x % 2 ^ k) := by
  refine pk_andN hx k ?_
  have : 2 ^ k ≤ 2 ^ 32 := Nat.pow_le_pow_right (by decide) hk
  rw [w_tn (by omega)]
  exact hm
theorem iI_and16 {z : Int} {n : Nat} (h : z % 65536 = n) : iI z &&& nI 65535 = nI n := by
  have e : iI z = nI (z % 4294967296).toNat := iI_nI (by omega)
  rw [e, w_and (m := 65535) 16 (by omega) rfl (by decide)]
  congr 1
  omega
theorem w_or {a b : Nat} : nI a ||| nI b = nI (a ||| b) := Int32.toBitVec_inj.mp (by
  show BitVec.ofNat 32 a ||| BitVec.ofNat 32 b = BitVec.ofNat 32 (a ||| b)
  exact (BitVec.ofNat_or ..).symm)
theorem w_ushr1 {x : Nat} (hx : x < 4294967296) : ((nI x).toUInt32 >>> ((nI 1).toUInt32 &&& Int32.toUInt32 31)).toInt32 = nI (x / 2) := pk_ushrN hx (nI 1) 1 (by decide +kernel)
theorem w_ushr16 {x : Nat} (hx : x < 4294967296) : ((nI x).toUInt32 >>> ((nI 16).toUInt32 &&& Int32.toUInt32 31)).toInt32 = nI (x / 65536) := pk_ushrN hx (nI 16) 16 (by decide +kernel)
theorem w_shl {y k : Nat} (hy : y < 4294967296) (hk : ((nI k &&& 31).toBitVec.smod 32).toNat = k) : nI y <<< (nI k &&& 31) = nI (y * 2 ^ k % 4294967296) := by
  apply Int32.toBitVec_inj.mp
  apply BitVec.eq_of_toNat_eq
  rw [pk_shl _ _ k hk, w_tn hy, w_tn (Nat.mod_lt _ (by decide))]
theorem w_shl31 {y : Nat} (hy : y < 4294967296) : nI y <<< (nI 31 &&& 31) = nI (y % 2 * 2147483648) := by
  rw [w_shl hy (by decide +kernel)]
  congr 1
  omega
theorem w_shl15 {y : Nat} (hy : y < 2) : nI y <<< (nI 15 &&& 31) = nI (y * 32768) := by
  rw [w_shl (by omega) (by decide +kernel)]
  congr 1
  omega
theorem w_shl16 {y : Nat} (hy : y < 65536) : nI y <<< (nI 16 &&& 31) = nI (y * 65536) := by
  rw [w_shl (by omega) (by decide +kernel)]
  congr 1
  omega
theorem w_or_add {a b k : Nat} (ha : a < 2 ^ k) : nI a ||| nI (b * 2 ^ k) = nI (a + b * 2 ^ k) := by
  rw [w_or, Nat.or_comm, ← Nat.shiftLeft_eq, ← Nat.shiftLeft_add_eq_or_of_lt ha, Nat.add_comm]
theorem w_half {x y : Nat} (hx : x < 4294967296) (hy : y < 4294967296) : ((nI x).toUInt32 >>> ((nI 1).toUInt32 &&& Int32.toUInt32 31)).toInt32 ||| nI y <<< (nI 31 &&& 31) = nI (x / 2 + y % 2 * 2147483648) := by
  rw [w_ushr1 hx, w_shl31 hy]
  exact w_or_add (k := 31) (by omega)
theorem w_half16 {x y : Nat} (hx : x < 65536) (hy : y < 65536) : nI x >>> (nI 1 &&& 31) ||| (nI y &&& nI 1) <<< (nI 15 &&& 31) = nI (x / 2 + y % 2 * 32768) := by
  rw [pk_shrN (by omega) _ 1 (by decide +kernel), w_and (m := 1) 1 (by omega) rfl (by decide), w_shl15 (by omega)]
  exact w_or_add (k := 15) (by omega)
theorem w_add (a b : Nat) : nI a + nI b = nI (a + b) := nI_add a b
theorem w_cmp_lt {a b : Nat} (ha : a < 9223372036854775808) (hb : b < 9223372036854775808) : lg_cmp (lN a) (lN b) = if a < b then -1 else if a = b then 0 else 1 := by
  unfold lg_cmp
  by_cases h1 : a < b
  · rw [if_neg (fun q => by have := (pk_lLT hb ha).mp q; omega), if_neg (fun q => by have := (pk_lEQ ha hb).mp q; omega), if_pos h1]
  · by_cases h2 : a = b
    · rw [if_neg (fun q => by have := (pk_lLT hb ha).mp q; omega), if_pos ((pk_lEQ ha hb).mpr h2), if_neg h1, if_pos h2]
    · rw [if_pos ((pk_lLT hb ha).mpr (by omega)), if_neg h1, if_neg h2]
/-- the remainder that a method takes of a number made positive -/
theorem w_and31 (x : Int32) : x &&& 2147483647 = nI (x.toBitVec.toNat % 2147483648) := pk_and x 31 (by decide +kernel)
theorem w_and3 (x : Int32) : x &&& nI 3 = nI (x.toBitVec.toNat % 4) := pk_and x 2 (by decide +kernel)
theorem w_rem {a d : Nat} (ha : a < 2147483648) (h0 : 0 < d) (hd : d < 2147483648) : nI a - nI a / nI d * nI d = nI (a % d) := pk_rem ha h0 hd
end Wrd
end
section
/-! digits of a number to the base b (2^32 or 2^16), with carries and borrows -/
section Dgt
def okb (b : Nat) : Prop := b = 4294967296 ∨ b = 65536
def dgt (b V k : Nat) : Nat := V / b ^ k % b
/-- the first n places of h hold the digits of V -/
def Rd (b n : Nat) (h : Nat → Int32) (V : Nat) : Prop := ∀ k, k < n → h k = nI (dgt b V k)
theorem okb_pos {b : Nat} (h : okb b) : 0 < b := by rcases h with rfl | rfl <;> decide
theorem okb_le {b : Nat} (h : okb b) : b ≤ 4294967296 := by rcases h with rfl | rfl <;> decide
theorem dgt_lt {b : Nat} (hb : okb b) (V k : Nat) : dgt b V k < b := Nat.mod_lt _ (okb_pos hb)
theorem dgt_lt32 {b : Nat} (hb : okb b) (V k : Nat) : dgt b V k < 4294967296 := Nat.lt_of_lt_of_le (dgt_lt hb V k) (okb_le hb)
theorem dgt_0 {b : Nat} (k : Nat) : dgt b 0 k = 0 := by simp [dgt]
theorem pow_pos' {b : Nat} (hb : okb b) (k : Nat) : 0 < b ^ k := Nat.pow_pos (okb_pos hb)
/-- what stands below place k + 1 -/
theorem mod_succ (b V k : Nat) : V % b ^ (k + 1) = V % b ^ k + b ^ k * dgt b V k := by
  rw [Nat.pow_succ, Nat.mod_mul]
  rfl
/-- what stands from place k on -/
theorem div_succ {b : Nat} (hb : okb b) (V k : Nat) : V / b ^ k = b * (V / b ^ (k + 1)) + dgt b V k := by
  have h := Nat.div_add_mod (V / b ^ k) b
  rw [Nat.div_div_eq_div_mul, ← Nat.pow_succ] at h
  exact h.symm
theorem dgt_mod {b n k : Nat} (hb : okb b) (hk : k < n) (V : Nat) : dgt b (V % b ^ n) k = dgt b V k := by
  unfold dgt
  obtain ⟨j, rfl⟩ : ∃ j, n = k + (j + 1) := ⟨n - k - 1, by omega⟩
  rw [Nat.pow_add, Nat.mod_mul_right_div_self]
  exact Nat.mod_mod_of_dvd _ ⟨b ^ j, by rw [Nat.pow_succ, Nat.mul_comm]⟩
theorem Rd.mod {b n : Nat} {h : Nat → Int32} {V : Nat} (hb : okb b) (hR : Rd b n h V) : Rd b n h (V % b ^ n) := fun k hk => by rw [hR k hk, dgt_mod hb hk]
theorem Rd.of_mod {b n : Nat} {h : Nat → Int32} {V : Nat} (hb : okb b) (hR : Rd b n h (V % b ^ n)) : Rd b n h V := fun k hk => by rw [hR k hk, dgt_mod hb hk]
theorem mod_ext {b : Nat} {V W : Nat} : ∀ n, (∀ k, k < n → dgt b V k = dgt b W k) → V % b ^ n = W % b ^ n := by
  intro n
  induction n with
  | zero => intro _; rw [Nat.pow_zero, Nat.mod_one, Nat.mod_one]
  | succ n ih =>
    intro h
    rw [mod_succ, mod_succ, ih (fun k hk => h k (by omega)), h n (by omega)]
theorem Rd.inj {b n : Nat} {h : Nat → Int32} {V W : Nat} (hb : okb b) (h1 : Rd b n h V) (h2 : Rd b n h W) (hV : V < b ^ n) (hW : W < b ^ n) : V = W := by
  have := mod_ext (b := b) (V := V) (W := W) n (fun k hk => (w_inj (dgt_lt32 hb _ _) (dgt_lt32 hb _ _)).mp (by rw [← h1 k hk, ← h2 k hk]))
  rwa [Nat.mod_eq_of_lt hV, Nat.mod_eq_of_lt hW] at this
theorem Rd.zero {b n : Nat} {h : Nat → Int32} (hz : ∀ k, k < n → h k = nI 0) : Rd b n h 0 := fun k hk => by rw [hz k hk, dgt_0]
theorem Rd.congr {b n : Nat} {h h' : Nat → Int32} {V : Nat} (hR : Rd b n h V) (e : ∀ k, k < n → h' k = h k) : Rd b n h' V := fun k hk => by rw [e k hk, hR k hk]
/-- carries of a sum -/
def cr (b A B k : Nat) : Nat := (A % b ^ k + B % b ^ k) / b ^ k
theorem cr_0 {b A B : Nat} : cr b A B 0 = 0 := by simp [cr, Nat.mod_one]
theorem cr_le {b : Nat} (hb : okb b) (A B k : Nat) : cr b A B k ≤ 1 := by
  have h := pow_pos' hb k
  have h1 := Nat.mod_lt A h
  have h2 := Nat.mod_lt B h
  have : cr b A B k < 2 := by
    unfold cr
    rw [Nat.div_lt_iff_lt_mul h]
    omega
  omega
theorem cr_succ {b : Nat} (hb : okb b) (A B k : Nat) : (cr b A B k + (dgt b A k + dgt b B k)) / b = cr b A B (k + 1) := by
  have h := pow_pos' hb k
  unfold cr
  rw [mod_succ, mod_succ, show A % b ^ k + b ^ k * dgt b A k + (B % b ^ k + b ^ k * dgt b B k) = (A % b ^ k + B % b ^ k) + b ^ k * (dgt b A k + dgt b B k) by rw [Nat.mul_add]; omega, Nat.pow_succ, ← Nat.div_div_eq_div_mul, Nat.add_mul_div_left _ _ h]
theorem dgt_add {b : Nat} (hb : okb b) (A B k : Nat) : (cr b A B k + (dgt b A k + dgt b B k)) % b = dgt b (A + B) k := by
  have h := pow_pos' hb k
  have e : (A + B) / b ^ k = cr b A B k + (A / b ^ k + B / b ^ k) := by
    have e1 := Nat.div_add_mod A (b ^ k)
    have e2 := Nat.div_add_mod B (b ^ k)
    have e3 : A + B = (A % b ^ k + B % b ^ k) + b ^ k * (A / b ^ k + B / b ^ k) := by
      rw [Nat.mul_add]; omega
    unfold cr
    rw [e3, Nat.add_mul_div_left _ _ h]
  show _ = (A + B) / b ^ k % b
  rw [e]
  unfold dgt
  generalize cr b A B k = c
  generalize A / b ^ k = x
  generalize B / b ^ k = y
  rcases hb with rfl | rfl <;> omega
theorem cr_top {b n A B : Nat} (hA : A < b ^ n) (hB : B < b ^ n) : cr b A B n = (A + B) / b ^ n := by
  unfold cr
  rw [Nat.mod_eq_of_lt hA, Nat.mod_eq_of_lt hB]
/-- borrows of a difference -/
def bw (b A B k : Nat) : Nat := if A % b ^ k < B % b ^ k then 1 else 0
theorem bw_0 {b A B : Nat} : bw b A B 0 = 0 := by simp [bw, Nat.mod_one]
theorem bw_le {b A B k : Nat} : bw b A B k ≤ 1 := by unfold bw; split <;> omega
theorem bw_succ {b : Nat} (hb : okb b) (A B k : Nat) : bw b A B (k + 1) = if dgt b A k < dgt b B k + bw b A B k then 1 else 0 := by
  have h := pow_pos' hb k
  have h1 := Nat.mod_lt A h
  have h2 := Nat.mod_lt B h
  unfold bw
  rw [mod_succ, mod_succ]
  generalize dgt b A k = x
  generalize dgt b B k = y
  generalize A % b ^ k = p at *
  generalize B % b ^ k = q at *
  generalize b ^ k = r at *
  rcases Nat.lt_trichotomy x y with e | e | e
  · have h3 : r * (x + 1) ≤ r * y := Nat.mul_le_mul_left r e
    rw [Nat.mul_add, Nat.mul_one] at h3
    rw [if_pos (by omega), if_pos (by omega)]
  · subst e
    by_cases hpq : p < q
    · rw [if_pos (by omega), if_pos hpq, if_pos (by omega)]
    · rw [if_neg (by omega), if_neg hpq, if_neg (by omega)]
  · have h3 : r * (y + 1) ≤ r * x := Nat.mul_le_mul_left r e
    rw [Nat.mul_add, Nat.mul_one] at h3
    rw [if_neg (by omega)]
    split <;> rw [if_neg (by omega)]
/-- b^n + A - B, in its first n places -/
theorem dgt_sub {b n : Nat} (hb : okb b) {A B k : Nat} (hk : k < n) (hB : B ≤ b ^ n) : dgt b (A + b ^ n - B) k = (dgt b A k + b - dgt b B k - bw b A B k) % b := by
  have h := pow_pos' hb k
  have h1 := Nat.mod_lt A h
  have h2 := Nat.mod_lt B h
  have e1 := Nat.div_add_mod A (b ^ k)
  have e2 := Nat.div_add_mod B (b ^ k)
  obtain ⟨j, rfl⟩ : ∃ j, n = k + (j + 1) := ⟨n - k - 1, by omega⟩
  have e3 : b ^ (k + (j + 1)) = b ^ k * (b * b ^ j) := by rw [Nat.pow_add, Nat.pow_succ, Nat.mul_comm b]
  have hB' : B / b ^ k + bw b A B k ≤ b * b ^ j := by
    rw [e3] at hB
    have h4 : B / b ^ k ≤ b * b ^ j := Nat.div_le_of_le_mul hB
    unfold bw
    split
    · rename_i hlt
      refine Nat.lt_of_le_of_ne h4 (fun e => ?_)
      rw [e] at e2
      generalize b ^ k * (b * b ^ j) = u at *
      generalize A % b ^ k = x at *
      generalize B % b ^ k = y at *
      omega
    · exact h4
  have e4 : (A + b ^ (k + (j + 1)) - B) / b ^ k = A / b ^ k + b * b ^ j - (B / b ^ k + bw b A B k) := by
    rw [e3]
    unfold bw at hB' ⊢
    generalize A / b ^ k = x at *
    generalize B / b ^ k = y at *
    generalize A % b ^ k = p at *
    generalize B % b ^ k = q at *
    generalize b ^ k = r at *
    generalize b * b ^ j = s at *
    by_cases hpq : p < q
    · rw [if_pos hpq] at hB' ⊢
      have e5 : r * (x + s - (y + 1)) = r * x + r * s - (r * y + r) := by
        rw [Nat.mul_sub, Nat.mul_add, Nat.mul_add, Nat.mul_one]
      have h6 : r * (y + 1) ≤ r * s := Nat.mul_le_mul_left r hB'
      rw [Nat.mul_add, Nat.mul_one] at h6
      have e7 : A + r * s - B = (r + p - q) + r * (x + s - (y + 1)) := by
        rw [e5]; omega
      rw [e7, Nat.add_mul_div_left _ _ h, Nat.div_eq_of_lt (by omega), Nat.zero_add]
    · rw [if_neg hpq] at hB' ⊢
      have e5 : r * (x + s - (y + 0)) = r * x + r * s - r * y := by
        rw [Nat.mul_sub, Nat.mul_add, Nat.add_zero]
      have h6 : r * (y + 0) ≤ r * s := Nat.mul_le_mul_left r hB'
      rw [Nat.add_zero] at h6
      have e7 : A + r * s - B = (p - q) + r * (x + s - (y + 0)) := by
        rw [e5]; omega
      rw [e7, Nat.add_mul_div_left _ _ h, Nat.div_eq_of_lt (by omega), Nat.zero_add]
  unfold dgt
  rw [e4]
  have hw : bw b A B k ≤ 1 := bw_le
  generalize bw b A B k = w at *
  generalize A / b ^ k = x at *
  generalize B / b ^ k = y at *
  generalize b ^ j = s at *
  rcases hb with rfl | rfl <;> omega
theorem bw_top {b n A B : Nat} (hA : A < b ^ n) (hB : B < b ^ n) : bw b A B n = if A < B then 1 else 0 := by
  unfold bw
  rw [Nat.mod_eq_of_lt hA, Nat.mod_eq_of_lt hB]
/-- halves -/
theorem dgt_half {b : Nat} (hb : okb b) (V k : Nat) : dgt b (V / 2) k = dgt b V k / 2 + dgt b V (k + 1) % 2 * (b / 2) := by
  unfold dgt
  rw [Nat.div_div_eq_div_mul, Nat.mul_comm 2, ← Nat.div_div_eq_div_mul, Nat.pow_succ, ← Nat.div_div_eq_div_mul]
  generalize V / b ^ k = y
  rcases hb with rfl | rfl <;> omega
/-- the order, by the highest place that differs -/
theorem lt_of_dgt {b : Nat} (hb : okb b) {V W k : Nat} (h : V / b ^ (k + 1) = W / b ^ (k + 1)) (hd : dgt b V k < dgt b W k) : V < W := by
  have e1 := div_succ hb V k
  have e2 := div_succ hb W k
  rw [h] at e1
  refine Classical.byContradiction fun hn => ?_
  have := Nat.div_le_div_right (c := b ^ k) (Nat.le_of_not_lt hn)
  omega
theorem eq_of_dgt {b : Nat} (hb : okb b) {V W k : Nat} (h : V / b ^ (k + 1) = W / b ^ (k + 1)) (hd : dgt b V k = dgt b W k) : V / b ^ k = W / b ^ k := by
  rw [div_succ hb V k, div_succ hb W k, h, hd]
theorem dgt_hi {b n V k : Nat} (hV : V < b ^ n) (hk : n ≤ k) (hb : okb b) : dgt b V k = 0 := by
  unfold dgt
  rw [Nat.div_eq_of_lt (Nat.lt_of_lt_of_le hV (Nat.pow_le_pow_right (okb_pos hb) hk)), Nat.zero_mod]
/-- a row of products -/
def pc (b y A S k : Nat) : Nat := (y * (A % b ^ k) + S % b ^ k) / b ^ k
theorem pc_0 {b y A S : Nat} : pc b y A S 0 = 0 := by simp [pc, Nat.mod_one]
theorem pc_lt {b : Nat} (hb : okb b) {y : Nat} (hy : y < b) (A S k : Nat) : pc b y A S k < b := by
  have h := pow_pos' hb k
  have h1 := Nat.mod_lt A h
  have h2 := Nat.mod_lt S h
  unfold pc
  rw [Nat.div_lt_iff_lt_mul h]
  have h3 : y * (A % b ^ k) ≤ y * b ^ k := Nat.mul_le_mul_left y (Nat.le_of_lt h1)
  have h4 : (y + 1) * b ^ k ≤ b * b ^ k := Nat.mul_le_mul_right _ hy
  rw [Nat.add_mul, Nat.one_mul] at h4
  omega
theorem pc_succ {b : Nat} (hb : okb b) (y A S k : Nat) : (pc b y A S k + (y * dgt b A k + dgt b S k)) / b = pc b y A S (k + 1) := by
  have h := pow_pos' hb k
  unfold pc
  have e : y * (A % b ^ k + b ^ k * dgt b A k) + (S % b ^ k + b ^ k * dgt b S k) = (y * (A % b ^ k) + S % b ^ k) + b ^ k * (y * dgt b A k + dgt b S k) := by
    rw [Nat.mul_add, Nat.mul_add, Nat.mul_left_comm]
    omega
  rw [mod_succ, mod_succ, e, Nat.pow_succ, ← Nat.div_div_eq_div_mul, Nat.add_mul_div_left _ _ h]
theorem dgt_mul {b : Nat} (hb : okb b) (y A S k : Nat) : (pc b y A S k + (y * dgt b A k + dgt b S k)) % b = dgt b (S + y * A) k := by
  have h := pow_pos' hb k
  have e : (S + y * A) / b ^ k = pc b y A S k + (y * (A / b ^ k) + S / b ^ k) := by
    have e1 := Nat.div_add_mod A (b ^ k)
    have e2 := Nat.div_add_mod S (b ^ k)
    have e3 : S + y * A = (y * (A % b ^ k) + S % b ^ k) + b ^ k * (y * (A / b ^ k) + S / b ^ k) := by
      have : y * A = y * (A % b ^ k) + b ^ k * (y * (A / b ^ k)) := by
        rw [Nat.mul_left_comm, ← Nat.mul_add]
        congr 1
        omega
      rw [Nat.mul_add]; omega
    unfold pc
    rw [e3, Nat.add_mul_div_left _ _ h]
  show _ = (S + y * A) / b ^ k % b
  rw [e]
  unfold dgt
  have e5 : (y * (A / b ^ k % b)) % b = (y * (A / b ^ k)) % b := by rw [Nat.mul_mod, Nat.mod_mod, ← Nat.mul_mod]
  generalize y * (A / b ^ k % b) = u at *
  generalize y * (A / b ^ k) = v at *
  generalize S / b ^ k = w at *
  generalize pc b y A S k = c at *
  rcases hb with rfl | rfl <;> omega
theorem P12 : PP < 4294967296 ^ 12 := by decide +kernel
theorem P24 : PP < 65536 ^ 24 := by decide +kernel
theorem P_half : 4294967296 ^ 12 < 2 * PP := by decide +kernel
theorem b_12_24 : 4294967296 ^ 12 = 65536 ^ 24 := by decide +kernel
theorem okb32 : okb 4294967296 := Or.inl rfl
theorem okb16 : okb 65536 := Or.inr rfl
end Dgt
end
section
/-! more rules of the frame: counters, loops that fill an array -/
section Mor
theorem gk {ci i : Nat} (h : ((1 ≤ i ∧ i ≤ 12) ∧ ¬ (ci = 0 ∧ i = 5))) : gOk ci i := h
theorem va_up_id {α : Type} (f : Nat → α) (i : Nat) : va_up f i (f i) = f := by
  funext j
  by_cases h : j = i
  · subst h; rw [va_up_self]
  · rw [va_up_ne _ _ h]
theorem va_up_up {α : Type} (f : Nat → α) (i : Nat) (x y : α) : va_up (va_up f i x) i y = va_up f i y := bx_uu f i x y
/-- f' is f, but that the array it has v in its places o .. o + k -/
def fil (f : gF) (it o : Nat) (v : Nat → Int32) (k : Nat) (f' : gF) : Prop := ∃ F, f' = va_up f it F ∧ (∀ j, j < k → F (o + j) = v j) ∧ ∀ j, j < o ∨ o + k ≤ j → F j = f it j
theorem fil.zero {f : gF} {it o : Nat} {v : Nat → Int32} : fil f it o v 0 f := ⟨f it, (va_up_id f it).symm, fun j h => by omega, fun j _ => rfl⟩
theorem fil.read {f f' : gF} {it : Nat} {v : Nat → Int32} {k : Nat} (h : fil f it 0 v k f') (ia : Nat) {j : Nat} (hj : k ≤ j) : f' ia j = f ia j := by
  obtain ⟨F, rfl, -, h2⟩ := h
  by_cases e : ia = it
  · subst e
    rw [va_up_self, h2 j (Or.inr (by omega))]
  · rw [va_up_ne _ _ e]
theorem fil.other {f f' : gF} {it o : Nat} {v : Nat → Int32} {k : Nat} (h : fil f it o v k f') {ia : Nat} (e : ia ≠ it) : f' ia = f ia := by
  obtain ⟨F, rfl, -, -⟩ := h
  rw [va_up_ne _ _ e]
theorem fil.next {f f' : gF} {it o : Nat} {v : Nat → Int32} {k : Nat} (h : fil f it o v k f') {x : Int32} (hx : x = v k) : fil f it o v (k + 1) (va_up f' it (upd (f' it) (o + k) x)) := by
  obtain ⟨F, rfl, h1, h2⟩ := h
  refine ⟨upd F (o + k) x, ?_, fun j hj => ?_, fun j hj => ?_⟩
  · rw [va_up_up, va_up_self]
  · by_cases e : j = k
    · subst e; rw [pk_us, hx]
    · rw [pk_un (by omega), h1 j (by omega)]
  · rw [pk_un (by omega), h2 j (by omega)]
/-- what a filled array holds -/
theorem fil.at {f f' : gF} {it o : Nat} {v : Nat → Int32} {k : Nat} (h : fil f it o v k f') : (∀ j, j < k → f' it (o + j) = v j) ∧ (∀ j, j < o ∨ o + k ≤ j → f' it j = f it j) ∧ f' = va_up f it (f' it) := by
  obtain ⟨F, rfl, h1, h2⟩ := h
  rw [va_up_self]
  exact ⟨h1, h2, rfl⟩
theorem fil.rd {b n : Nat} {f f' : gF} {it : Nat} {V : Nat} (h : fil f it 0 (fun j => nI (dgt b V j)) n f') : Rd b n (f' it) V := fun k hk => by
  have := h.at.1 k hk
  rwa [Nat.zero_add] at this
/-- f' is f but for the array it, which holds V -/
def nu (b n : Nat) (f : gF) (it V : Nat) (f' : gF) : Prop := (∃ F, f' = va_up f it F) ∧ Rd b n (f' it) V
theorem fil.nu {b n : Nat} {f f' : gF} {it : Nat} {V : Nat} (h : fil f it 0 (fun j => nI (dgt b V j)) n f') : nu b n f it V f' := ⟨⟨_, h.at.2.2⟩, h.rd⟩
theorem nu.ne {b n : Nat} {f f' : gF} {it V : Nat} (h : nu b n f it V f') {j : Nat} (e : j ≠ it) : f' j = f j := by
  obtain ⟨⟨F, rfl⟩, -⟩ := h
  exact va_up_ne _ _ e
theorem nu.trans {b n n' : Nat} {f f' f'' : gF} {it V V' : Nat} (h : nu b n f it V f') (h' : nu b n' f' it V' f'') : nu b n' f it V' f'' := by
  obtain ⟨⟨F, rfl⟩, -⟩ := h
  obtain ⟨⟨F', rfl⟩, h2⟩ := h'
  exact ⟨⟨F', va_up_up _ _ _ _⟩, h2⟩
theorem nu.self {b n : Nat} {f : gF} {it V : Nat} (h : Rd b n (f it) V) : nu b n f it V f := ⟨⟨f it, (va_up_id f it).symm⟩, h⟩
theorem nu.val {b n : Nat} {f f' : gF} {it V V' : Nat} (h : nu b n f it V f') (e : V = V') : nu b n f it V' f' := e ▸ h
section Rules2
variable {z : gZ} {l : Launch} {cc : ByteArray} {own : String} {ci : Nat} {a : Nat → Nat} {D : va_G} {d dL : ClassId} {nL : Nat} {ret : Option FieldType} {Rv : Option Value → gF → gG → Prop} {R : Room} {f : gF} {g : gG} {pc : Nat} {lv : List (Nat × Value)} {st : List Value}
theorem J.inc (C : gOK z l cc own ci a D d dL nL ret Rv R) {i k : Nat} {lv' : List (Nat × Value)} (hdg : decode cc pc = .ok (.iinc i 1, 3)) (q : Nat) (hq : lv[q]? = some (i, .int (nI k))) (hn : i < nL) (hl : (i, Value.int (nI (k + 1))) :: lv.filter (fun q => !(q.1 == i) && !(q.1 + 1 == i && q.2.category == 2)) = lv') (kk : J z f g (pc + 3) lv' st) : J z f g pc lv st := J.iinc C hdg q hq (nI_1 k) hn hl kk
theorem J.dec (C : gOK z l cc own ci a D d dL nL ret Rv R) {i k : Nat} {lv' : List (Nat × Value)} (hdg : decode cc pc = .ok (.iinc i (-1), 3)) (q : Nat) (hq : lv[q]? = some (i, .int (nI (k + 1)))) (hn : i < nL) (hl : (i, Value.int (nI k)) :: lv.filter (fun q => !(q.1 == i) && !(q.1 + 1 == i && q.2.category == 2)) = lv') (kk : J z f g (pc + 3) lv' st) : J z f g pc lv st := J.iinc C hdg q hq (pk_m1 k) hn hl kk
theorem J.fast (C : gOK z l cc own ci a D d dL nL ret Rv R) {f0 : gF} {it o k j : Nat} {v : Nat → Int32} {x : Int32} (hI : fil f0 it o v k f) (hi : gOk ci it) (hj : j = o + k) (hk : j < gLen ci it) (hx : x = v k) (hdg : decode cc pc = .ok (.iastore, 1)) (kk : ∀ f', fil f0 it o v (k + 1) f' → J z f' g (pc + 1) lv st) : J z f g pc lv (.int x :: .int (nI j) :: .ref (a it) :: st) := by
  subst hj
  exact J.iast C hi hk hdg (kk _ (hI.next hx))
end Rules2
end Mor
end
section
section Xle
set_option maxHeartbeats 4000000 in
set_option maxRecDepth 100000 in
theorem x_plus {l : Launch} {D : va_G} {d dL : ClassId} {a : Nat → Nat} {f : gF} {g : gG} {ia ib it A B : Nat} (k_ia : gOk 0 ia) (n_ia : gLen 0 ia = 12) (k_ib : gOk 0 ib) (n_ib : gLen 0 ib = 12) (k_it : gOk 0 it) (n_it : gLen 0 it = 12) (hA : Rd 4294967296 12 (f ia) A) (hB : Rd 4294967296 12 (f ib) B) (lA : A < 4294967296 ^ 12) (lB : B < 4294967296 ^ 12) : gMet l yX0_plus cX0_plus 6 (some .int) 0 0 D d dL 0 a [.ref (a ia), .ref (a ib), .ref (a it)] f g (fun v f' g' => v = some (.int (nI ((A + B) / 4294967296 ^ 12))) ∧ g' = g ∧ nu 4294967296 12 f it (A + B) f') := by
  refine gMet.of (by decide) (Nat.le_of_ble_eq_true rfl) (fun z C => ?_)
  show J z f g 0 [(0, .ref (a ia)), (1, .ref (a ib)), (2, .ref (a it))] []
  refine J.lconst (v := lN 0) C dX0_plus_0 rfl ?_
  refine J.eql (y := lN (cr 4294967296 A B 0)) (by rw [cr_0]) ?_
  refine J.lstore_n (lv' := [(3, .long _), (0, .ref _), (1, .ref _), (2, .ref _)]) C dX0_plus_1 rfl (by decide) rfl ?_
  refine J.iconst (v := nI 0) C dX0_plus_2 (by decide) ?_
  refine J.istore (lv' := [(5, .int _), (3, .long _), (0, .ref _), (1, .ref _), (2, .ref _)]) C dX0_plus_3 (by decide) rfl ?_
  refine J.perm (lv' := [(0, .ref _), (1, .ref _), (2, .ref _), (3, .long _), (5, .int _)]) [2, 3, 4, 1, 0] rfl ?_
  refine J.loop (head := 5) 12 (fun k f' g' => g' = g ∧ fil f it 0 (fun j => nI (dgt 4294967296 (A + B) j)) k f') (fun k => [(0, .ref (a ia)), (1, .ref (a ib)), (2, .ref (a it)), (3, .long (lN (cr 4294967296 A B k))), (5, .int (nI k))]) ?_ ?_ 12 0 _ _ rfl ⟨rfl, fil.zero⟩
  · intro f' g' hI
    obtain ⟨rfl, hI⟩ := hI
    refine J.iload C dX0_plus_5 4 rfl ?_
    refine J.bipush (v := nI 12) C dX0_plus_7 (by decide) ?_
    refine J.ncmp_ge (tgt := 51) C dX0_plus_9 (by decide) (by omega) (by omega) (fun h => ?_) (fun h => ?_)
    · refine J.lload_n C dX0_plus_51 rfl 3 rfl ?_
      refine J.l2i C dX0_plus_52 ?_
      exact J.iret C dX0_plus_53 ⟨by rw [w_l2i, cr_top lA lB], rfl, hI.nu⟩
    · exact absurd h (by omega)
  · intro k f' g' hk hI ih
    obtain ⟨rfl, hI⟩ := hI
    refine J.iload C dX0_plus_5 4 rfl ?_
    refine J.bipush (v := nI 12) C dX0_plus_7 (by decide) ?_
    refine J.ncmp_ge (tgt := 51) C dX0_plus_9 (by decide) (by omega) (by omega) (fun h => ?_) (fun h => ?_)
    · exact absurd h (by omega)
    · refine J.lload_n C dX0_plus_12 rfl 3 rfl ?_
      refine J.aload_n C dX0_plus_13 rfl 0 rfl ?_
      refine J.iload C dX0_plus_14 4 rfl ?_
      refine J.iald C k_ia (by rw [n_ia]; omega) dX0_plus_16 ?_
      refine J.eqi ((hI.read ia (Nat.le_refl k)).trans (hA k hk)) ?_
      refine J.i2l C dX0_plus_17 ?_
      refine J.ldc2 C q35 dX0_plus_18 ?_
      refine J.land C dX0_plus_21 ?_
      refine J.eql (w_i2l (dgt_lt32 okb32 _ _)) ?_
      refine J.aload_n C dX0_plus_22 rfl 1 rfl ?_
      refine J.iload C dX0_plus_23 4 rfl ?_
      refine J.iald C k_ib (by rw [n_ib]; omega) dX0_plus_25 ?_
      refine J.eqi ((hI.read ib (Nat.le_refl k)).trans (hB k hk)) ?_
      refine J.i2l C dX0_plus_26 ?_
      refine J.ldc2 C q35 dX0_plus_27 ?_
      refine J.land C dX0_plus_30 ?_
      refine J.eql (w_i2l (dgt_lt32 okb32 _ _)) ?_
      refine J.ladd C dX0_plus_31 ?_
      refine J.eql (lN_add _ _) ?_
      refine J.ladd C dX0_plus_32 ?_
      refine J.eql (lN_add _ _) ?_
      refine J.lstore_n (lv' := [(3, .long _), (0, .ref _), (1, .ref _), (2, .ref _), (5, .int _)]) C dX0_plus_33 rfl (by decide) rfl ?_
      refine J.aload_n C dX0_plus_34 rfl 3 rfl ?_
      refine J.iload C dX0_plus_35 4 rfl ?_
      refine J.lload_n C dX0_plus_37 rfl 0 rfl ?_
      refine J.l2i C dX0_plus_38 ?_
      refine J.eqi (w_l2i _) ?_
      refine J.fast C hI k_it (Nat.zero_add k).symm (by rw [n_it]; omega) (by rw [w_mod, dgt_add okb32]) dX0_plus_39 (fun f' hI => ?_)
      refine J.lload_n C dX0_plus_40 rfl 0 rfl ?_
      refine J.bipush (v := nI 32) C dX0_plus_41 (by decide) ?_
      refine J.lshr C dX0_plus_43 ?_
      refine J.eql (w_lshr (by have := cr_le okb32 A B k; have := dgt_lt okb32 A k; have := dgt_lt okb32 B k; omega)) ?_
      refine J.eql (congrArg lN (cr_succ okb32 A B k)) ?_
      refine J.lstore_n (lv' := [(3, .long _), (0, .ref _), (1, .ref _), (2, .ref _), (5, .int _)]) C dX0_plus_44 rfl (by decide) rfl ?_
      refine J.inc (lv' := [(5, .int _), (3, .long _), (0, .ref _), (1, .ref _), (2, .ref _)]) C dX0_plus_45 4 rfl (by decide) rfl ?_
      refine J.goto (tgt := 5) C dX0_plus_48 (by decide) ?_
      refine J.perm (lv' := [(0, .ref _), (1, .ref _), (2, .ref _), (3, .long _), (5, .int _)]) [2, 3, 4, 1, 0] rfl ?_
      exact ih _ _ ⟨rfl, hI⟩
theorem x_minus_d {A B k : Nat} (hk : k < 12) (lB : B < 4294967296 ^ 12) : iI (-(bw 4294967296 A B k : Int) + ((dgt 4294967296 A k : Int) - (dgt 4294967296 B k : Int))) = nI (dgt 4294967296 (A + 4294967296 ^ 12 - B) k) := by
  apply iI_nI
  rw [dgt_sub okb32 hk (Nat.le_of_lt lB)]
  have := bw_le (b := 4294967296) (A := A) (B := B) (k := k)
  have := dgt_lt okb32 A k
  have := dgt_lt okb32 B k
  omega
theorem x_minus_c {A B k : Nat} : (-(bw 4294967296 A B k : Int) + ((dgt 4294967296 A k : Int) - (dgt 4294967296 B k : Int))) / 4294967296 = -(bw 4294967296 A B (k + 1) : Int) := by
  rw [bw_succ okb32]
  have := bw_le (b := 4294967296) (A := A) (B := B) (k := k)
  have := dgt_lt okb32 A k
  have := dgt_lt okb32 B k
  split <;> omega
set_option maxHeartbeats 4000000 in
set_option maxRecDepth 100000 in
theorem x_minus {l : Launch} {D : va_G} {d dL : ClassId} {a : Nat → Nat} {f : gF} {g : gG} {ia ib it A B : Nat} (k_ia : gOk 0 ia) (n_ia : gLen 0 ia = 12) (k_ib : gOk 0 ib) (n_ib : gLen 0 ib = 12) (k_it : gOk 0 it) (n_it : gLen 0 it = 12) (hA : Rd 4294967296 12 (f ia) A) (hB : Rd 4294967296 12 (f ib) B) (lA : A < 4294967296 ^ 12) (lB : B < 4294967296 ^ 12) : gMet l yX0_minus cX0_minus 6 (some .int) 0 0 D d dL 0 a [.ref (a ia), .ref (a ib), .ref (a it)] f g (fun v f' g' => v = some (.int (if A < B then -1 else nI 0)) ∧ g' = g ∧ nu 4294967296 12 f it (A + 4294967296 ^ 12 - B) f') := by
  refine gMet.of (by decide) (Nat.le_of_ble_eq_true rfl) (fun z C => ?_)
  show J z f g 0 [(0, .ref (a ia)), (1, .ref (a ib)), (2, .ref (a it))] []
  refine J.lconst (v := lN 0) C dX0_minus_0 rfl ?_
  refine J.eql (y := iL (-(bw 4294967296 A B 0 : Int))) (by rw [bw_0]; rfl) ?_
  refine J.lstore_n (lv' := [(3, .long _), (0, .ref _), (1, .ref _), (2, .ref _)]) C dX0_minus_1 rfl (by decide) rfl ?_
  refine J.iconst (v := nI 0) C dX0_minus_2 (by decide) ?_
  refine J.istore (lv' := [(5, .int _), (3, .long _), (0, .ref _), (1, .ref _), (2, .ref _)]) C dX0_minus_3 (by decide) rfl ?_
  refine J.perm (lv' := [(0, .ref _), (1, .ref _), (2, .ref _), (3, .long _), (5, .int _)]) [2, 3, 4, 1, 0] rfl ?_
  refine J.loop (head := 5) 12 (fun k f' g' => g' = g ∧ fil f it 0 (fun j => nI (dgt 4294967296 (A + 4294967296 ^ 12 - B) j)) k f') (fun k => [(0, .ref (a ia)), (1, .ref (a ib)), (2, .ref (a it)), (3, .long (iL (-(bw 4294967296 A B k : Int)))), (5, .int (nI k))]) ?_ ?_ 12 0 _ _ rfl ⟨rfl, fil.zero⟩
  · intro f' g' hI
    obtain ⟨rfl, hI⟩ := hI
    refine J.iload C dX0_minus_5 4 rfl ?_
    refine J.bipush (v := nI 12) C dX0_minus_7 (by decide) ?_
    refine J.ncmp_ge (tgt := 51) C dX0_minus_9 (by decide) (by omega) (by omega) (fun h => ?_) (fun h => ?_)
    · refine J.lload_n C dX0_minus_51 rfl 3 rfl ?_
      refine J.l2i C dX0_minus_52 ?_
      exact J.iret C dX0_minus_53 ⟨by rw [iL_i, bw_top lA lB]; split <;> rfl, rfl, hI.nu⟩
    · exact absurd h (by omega)
  · intro k f' g' hk hI ih
    obtain ⟨rfl, hI⟩ := hI
    refine J.iload C dX0_minus_5 4 rfl ?_
    refine J.bipush (v := nI 12) C dX0_minus_7 (by decide) ?_
    refine J.ncmp_ge (tgt := 51) C dX0_minus_9 (by decide) (by omega) (by omega) (fun h => ?_) (fun h => ?_)
    · exact absurd h (by omega)
    · refine J.lload_n C dX0_minus_12 rfl 3 rfl ?_
      refine J.aload_n C dX0_minus_13 rfl 0 rfl ?_
      refine J.iload C dX0_minus_14 4 rfl ?_
      refine J.iald C k_ia (by rw [n_ia]; omega) dX0_minus_16 ?_
      refine J.eqi ((hI.read ia (Nat.le_refl k)).trans (hA k hk)) ?_
      refine J.i2l C dX0_minus_17 ?_
      refine J.ldc2 C q35 dX0_minus_18 ?_
      refine J.land C dX0_minus_21 ?_
      refine J.eql (w_i2l (dgt_lt32 okb32 _ _)) ?_
      refine J.aload_n C dX0_minus_22 rfl 1 rfl ?_
      refine J.iload C dX0_minus_23 4 rfl ?_
      refine J.iald C k_ib (by rw [n_ib]; omega) dX0_minus_25 ?_
      refine J.eqi ((hI.read ib (Nat.le_refl k)).trans (hB k hk)) ?_
      refine J.i2l C dX0_minus_26 ?_
      refine J.ldc2 C q35 dX0_minus_27 ?_
      refine J.land C dX0_minus_30 ?_
      refine J.eql (w_i2l (dgt_lt32 okb32 _ _)) ?_
      refine J.lsub C dX0_minus_31 ?_
      refine J.eql (by rw [iL_N, iL_N, iL_sub]) ?_
      refine J.ladd C dX0_minus_32 ?_
      refine J.eql (iL_add _ _) ?_
      refine J.lstore_n (lv' := [(3, .long _), (0, .ref _), (1, .ref _), (2, .ref _), (5, .int _)]) C dX0_minus_33 rfl (by decide) rfl ?_
      refine J.aload_n C dX0_minus_34 rfl 3 rfl ?_
      refine J.iload C dX0_minus_35 4 rfl ?_
      refine J.lload_n C dX0_minus_37 rfl 0 rfl ?_
      refine J.l2i C dX0_minus_38 ?_
      refine J.eqi (iL_i _) ?_
      refine J.fast C hI k_it (Nat.zero_add k).symm (by rw [n_it]; omega) (x_minus_d hk lB) dX0_minus_39 (fun f' hI => ?_)
      refine J.lload_n C dX0_minus_40 rfl 0 rfl ?_
      refine J.bipush (v := nI 32) C dX0_minus_41 (by decide) ?_
      refine J.lshr C dX0_minus_43 ?_
      refine J.eql (iL_shr (by have := bw_le (b := 4294967296) (A := A) (B := B) (k := k); have := dgt_lt okb32 A k; have := dgt_lt okb32 B k; omega) (by have := bw_le (b := 4294967296) (A := A) (B := B) (k := k); have := dgt_lt okb32 A k; have := dgt_lt okb32 B k; omega)) ?_
      refine J.eql (congrArg iL x_minus_c) ?_
      refine J.lstore_n (lv' := [(3, .long _), (0, .ref _), (1, .ref _), (2, .ref _), (5, .int _)]) C dX0_minus_44 rfl (by decide) rfl ?_
      refine J.inc (lv' := [(5, .int _), (3, .long _), (0, .ref _), (1, .ref _), (2, .ref _)]) C dX0_minus_45 4 rfl (by decide) rfl ?_
      refine J.goto (tgt := 5) C dX0_minus_48 (by decide) ?_
      refine J.perm (lv' := [(0, .ref _), (1, .ref _), (2, .ref _), (3, .long _), (5, .int _)]) [2, 3, 4, 1, 0] rfl ?_
      exact ih _ _ ⟨rfl, hI⟩
def pm : Nat → Int32
  | 0 => -1
  | k + 1 => nI k
theorem pm_dec (k : Nat) : nI k + Int32.ofInt (-1) = pm k := by
  cases k with
  | zero => decide
  | succ k => exact pk_m1 k
def tf (p : Prop) [Decidable p] : Int32 := if p then nI 1 else nI 0
theorem tf_t {p : Prop} [Decidable p] (h : p) : tf p = nI 1 := if_pos h
theorem tf_f {p : Prop} [Decidable p] (h : ¬ p) : tf p = nI 0 := if_neg h
theorem tf_nar {p : Prop} [Decidable p] : narrow .boolean (.int (tf p)) = .int (tf p) := by
  unfold tf
  split <;> rfl
set_option maxHeartbeats 4000000 in
set_option maxRecDepth 100000 in
theorem x_isLess {l : Launch} {D : va_G} {d dL : ClassId} {a : Nat → Nat} {f : gF} {g : gG} {ia ib A B : Nat} (k_ia : gOk 0 ia) (n_ia : gLen 0 ia = 12) (k_ib : gOk 0 ib) (n_ib : gLen 0 ib = 12) (hA : Rd 4294967296 12 (f ia) A) (hB : Rd 4294967296 12 (f ib) B) (lA : A < 4294967296 ^ 12) (lB : B < 4294967296 ^ 12) : gMet l yX0_isLess cX0_isLess 3 (some .boolean) 0 0 D d dL 0 a [.ref (a ia), .ref (a ib)] f g (fun v f' g' => v = some (.int (tf (A < B))) ∧ g' = g ∧ f' = f) := by
  refine gMet.of (by decide) (Nat.le_of_ble_eq_true rfl) (fun z C => ?_)
  show J z f g 0 [(0, .ref (a ia)), (1, .ref (a ib))] []
  refine J.bipush (v := nI 11) C dX0_isLess_0 (by decide) ?_
  refine J.istore_n (lv' := [(2, .int _), (0, .ref _), (1, .ref _)]) C dX0_isLess_2 rfl (by decide) rfl ?_
  refine J.perm (lv' := [(0, .ref _), (1, .ref _), (2, .int _)]) [1, 2, 0] rfl ?_
  refine J.loopM (head := 3) (fun m : Nat => m) (fun m f' g' => f' = f ∧ g' = g ∧ m ≤ 12 ∧ A / 4294967296 ^ m = B / 4294967296 ^ m) (fun m => [(0, .ref (a ia)), (1, .ref (a ib)), (2, .int (pm m))]) ?_ 13 12 _ _ (by decide) ⟨rfl, rfl, Nat.le_refl 12, by rw [Nat.div_eq_of_lt lA, Nat.div_eq_of_lt lB]⟩
  intro m f' g' hI ih
  obtain ⟨rfl, rfl, hm, hE⟩ := hI
  cases m with
  | zero =>
    refine J.iload_n C dX0_isLess_3 rfl 2 rfl ?_
    refine J.if_lt (tgt := 48) C dX0_isLess_4 (by decide) (fun c => ?_) (fun c => ?_)
    · refine J.iconst (v := nI 0) C dX0_isLess_48 (by decide) ?_
      rw [Nat.pow_zero, Nat.div_one, Nat.div_one] at hE
      refine J.eqi (y := tf (A < B)) (tf_f (by omega)).symm ?_
      exact J.zret C tf_nar dX0_isLess_49 ⟨rfl, rfl, rfl⟩
    · exact absurd (show pm 0 < 0 by decide) c
  | succ k =>
    refine J.iload_n C dX0_isLess_3 rfl 2 rfl ?_
    refine J.if_lt (tgt := 48) C dX0_isLess_4 (by decide) (fun c => ?_) (fun c => ?_)
    · exact absurd c (nI_pos (n := k) (by omega))
    · refine J.aload_n C dX0_isLess_7 rfl 0 rfl ?_
      refine J.iload_n C dX0_isLess_8 rfl 2 rfl ?_
      refine J.iald C k_ia (by rw [n_ia]; omega) dX0_isLess_9 ?_
      refine J.eqi (hA k (by omega)) ?_
      refine J.aload_n C dX0_isLess_10 rfl 1 rfl ?_
      refine J.iload_n C dX0_isLess_11 rfl 2 rfl ?_
      refine J.iald C k_ib (by rw [n_ib]; omega) dX0_isLess_12 ?_
      refine J.eqi (hB k (by omega)) ?_
      refine J.icmp_eq (tgt := 42) C dX0_isLess_13 (by decide) (fun c2 => ?_) (fun c2 => ?_)
      · refine J.iinc (x := nI k) (v := pm k) (lv' := [(2, .int _), (0, .ref _), (1, .ref _)]) C dX0_isLess_42 2 rfl (pm_dec k) (by decide) rfl ?_
        refine J.goto (tgt := 3) C dX0_isLess_45 (by decide) ?_
        refine J.perm (lv' := [(0, .ref _), (1, .ref _), (2, .int _)]) [1, 2, 0] rfl ?_
        exact ih k _ _ ⟨rfl, rfl, by omega, eq_of_dgt okb32 hE ((w_inj (dgt_lt32 okb32 _ _) (dgt_lt32 okb32 _ _)).mp c2)⟩ (Nat.lt_succ_self k)
      · refine J.aload_n C dX0_isLess_16 rfl 0 rfl ?_
        refine J.iload_n C dX0_isLess_17 rfl 2 rfl ?_
        refine J.iald C k_ia (by rw [n_ia]; omega) dX0_isLess_18 ?_
        refine J.eqi (hA k (by omega)) ?_
        refine J.i2l C dX0_isLess_19 ?_
        refine J.ldc2 C q35 dX0_isLess_20 ?_
        refine J.land C dX0_isLess_23 ?_
        refine J.eql (w_i2l (dgt_lt32 okb32 _ _)) ?_
        refine J.aload_n C dX0_isLess_24 rfl 1 rfl ?_
        refine J.iload_n C dX0_isLess_25 rfl 2 rfl ?_
        refine J.iald C k_ib (by rw [n_ib]; omega) dX0_isLess_26 ?_
        refine J.eqi (hB k (by omega)) ?_
        refine J.i2l C dX0_isLess_27 ?_
        refine J.ldc2 C q35 dX0_isLess_28 ?_
        refine J.land C dX0_isLess_31 ?_
        refine J.eql (w_i2l (dgt_lt32 okb32 _ _)) ?_
        refine J.lcmp C dX0_isLess_32 ?_
        refine J.eqi (w_cmp_lt (by have := dgt_lt okb32 A k; omega) (by have := dgt_lt okb32 B k; omega)) ?_
        refine J.if_ge (tgt := 40) C dX0_isLess_33 (by decide) (fun c3 => ?_) (fun c3 => ?_)
        · refine J.iconst (v := nI 0) C dX0_isLess_40 (by decide) ?_
          have hd : ¬ dgt 4294967296 A k < dgt 4294967296 B k := fun q => by rw [if_pos q] at c3; exact absurd c3 (by decide)
          have hn : dgt 4294967296 A k ≠ dgt 4294967296 B k := fun q => c2 (by rw [q])
          refine J.eqi (y := tf (A < B)) (tf_f (fun q => ?_)).symm ?_
          · have := lt_of_dgt okb32 hE.symm (show dgt 4294967296 B k < dgt 4294967296 A k by omega)
            omega
          · exact J.zret C tf_nar dX0_isLess_41 ⟨rfl, rfl, rfl⟩
        · refine J.iconst (v := nI 1) C dX0_isLess_36 (by decide) ?_
          refine J.goto (tgt := 41) C dX0_isLess_37 (by decide) ?_
          have hd : dgt 4294967296 A k < dgt 4294967296 B k := Classical.byContradiction fun q => by
            rw [if_neg q] at c3
            split at c3 <;> exact absurd (by decide) c3
          refine J.eqi (y := tf (A < B)) (tf_t (lt_of_dgt okb32 hE hd)).symm ?_
          exact J.zret C tf_nar dX0_isLess_41 ⟨rfl, rfl, rfl⟩
set_option maxHeartbeats 4000000 in
set_option maxRecDepth 100000 in
theorem x_isZero {l : Launch} {D : va_G} {d dL : ClassId} {a : Nat → Nat} {f : gF} {g : gG} {ia A : Nat} (k_ia : gOk 0 ia) (n_ia : gLen 0 ia = 12) (hA : Rd 4294967296 12 (f ia) A) (lA : A < 4294967296 ^ 12) : gMet l yX0_isZero cX0_isZero 2 (some .boolean) 0 0 D d dL 0 a [.ref (a ia)] f g (fun v f' g' => v = some (.int (tf (A = 0))) ∧ g' = g ∧ f' = f) := by
  refine gMet.of (by decide) (Nat.le_of_ble_eq_true rfl) (fun z C => ?_)
  show J z f g 0 [(0, .ref (a ia))] []
  refine J.iconst (v := nI 0) C dX0_isZero_0 (by decide) ?_
  refine J.istore_n (lv' := [(1, .int _), (0, .ref _)]) C dX0_isZero_1 rfl (by decide) rfl ?_
  refine J.perm (lv' := [(0, .ref _), (1, .int _)]) [1, 0] rfl ?_
  refine J.loop (head := 2) 12 (fun k f' g' => f' = f ∧ g' = g ∧ 0 ≤ k ∧ A % 4294967296 ^ k = 0) (fun k => [(0, .ref (a ia)), (1, .int (nI k))]) ?_ ?_ 12 0 _ _ rfl ⟨rfl, rfl, Nat.le_refl _, by rw [Nat.pow_zero, Nat.mod_one]⟩
  · intro f' g' hI
    obtain ⟨rfl, rfl, -, hE⟩ := hI
    refine J.iload_n C dX0_isZero_2 rfl 1 rfl ?_
    refine J.bipush (v := nI 12) C dX0_isZero_3 (by decide) ?_
    refine J.ncmp_ge (tgt := 22) C dX0_isZero_5 (by decide) (by omega) (by omega) (fun h => ?_) (fun h => ?_)
    · refine J.iconst (v := nI 1) C dX0_isZero_22 (by decide) ?_
      rw [Nat.mod_eq_of_lt lA] at hE
      refine J.eqi (y := tf (A = 0)) (tf_t hE).symm ?_
      exact J.zret C tf_nar dX0_isZero_23 ⟨rfl, rfl, rfl⟩
    · exact absurd h (by omega)
  · intro k f' g' hk hI ih
    obtain ⟨rfl, rfl, hk1, hE⟩ := hI
    refine J.iload_n C dX0_isZero_2 rfl 1 rfl ?_
    refine J.bipush (v := nI 12) C dX0_isZero_3 (by decide) ?_
    refine J.ncmp_ge (tgt := 22) C dX0_isZero_5 (by decide) (by omega) (by omega) (fun h => ?_) (fun h => ?_)
    · exact absurd h (by omega)
    · refine J.aload_n C dX0_isZero_8 rfl 0 rfl ?_
      refine J.iload_n C dX0_isZero_9 rfl 1 rfl ?_
      refine J.iald C k_ia (by rw [n_ia]; omega) dX0_isZero_10 ?_
      refine J.eqi (hA k (by omega)) ?_
      refine J.if_eq (tgt := 16) C dX0_isZero_11 (by decide) (fun c => ?_) (fun c => ?_)
      · have hd : dgt 4294967296 A k = 0 := (w_inj (dgt_lt32 okb32 _ _) (by decide)).mp c
        refine J.inc (lv' := [(1, .int _), (0, .ref _)]) C dX0_isZero_16 1 rfl (by decide) rfl ?_
        refine J.goto (tgt := 2) C dX0_isZero_19 (by decide) ?_
        refine J.perm (lv' := [(0, .ref _), (1, .int _)]) [1, 0] rfl ?_
        exact ih _ _ ⟨rfl, rfl, by omega, by rw [mod_succ, hd, Nat.mul_zero, Nat.add_zero]; exact hE⟩
      · refine J.iconst (v := nI 0) C dX0_isZero_14 (by decide) ?_
        refine J.eqi (y := tf (A = 0)) (tf_f (fun q => c ?_)).symm ?_
        · subst q; rw [dgt_0]; rfl
        · exact J.zret C tf_nar dX0_isZero_15 ⟨rfl, rfl, rfl⟩
set_option maxHeartbeats 4000000 in
set_option maxRecDepth 100000 in
theorem x_isOne {l : Launch} {D : va_G} {d dL : ClassId} {a : Nat → Nat} {f : gF} {g : gG} {ia A : Nat} (k_ia : gOk 0 ia) (n_ia : gLen 0 ia = 12) (hA : Rd 4294967296 12 (f ia) A) (lA : A < 4294967296 ^ 12) : gMet l yX0_isOne cX0_isOne 2 (some .boolean) 0 0 D d dL 0 a [.ref (a ia)] f g (fun v f' g' => v = some (.int (tf (A = 1))) ∧ g' = g ∧ f' = f) := by
  refine gMet.of (by decide) (Nat.le_of_ble_eq_true rfl) (fun z C => ?_)
  show J z f g 0 [(0, .ref (a ia))] []
  refine J.iconst (v := nI 1) C dX0_isOne_0 (by decide) ?_
  refine J.istore_n (lv' := [(1, .int _), (0, .ref _)]) C dX0_isOne_1 rfl (by decide) rfl ?_
  refine J.perm (lv' := [(0, .ref _), (1, .int _)]) [1, 0] rfl ?_
  refine J.loop (head := 2) 12 (fun k f' g' => f' = f ∧ g' = g ∧ 1 ≤ k ∧ A % 4294967296 ^ k = A % 4294967296 ^ 1) (fun k => [(0, .ref (a ia)), (1, .int (nI k))]) ?_ ?_ 11 1 _ _ rfl ⟨rfl, rfl, Nat.le_refl _, rfl⟩
  · intro f' g' hI
    obtain ⟨rfl, rfl, -, hE⟩ := hI
    refine J.iload_n C dX0_isOne_2 rfl 1 rfl ?_
    refine J.bipush (v := nI 12) C dX0_isOne_3 (by decide) ?_
    refine J.ncmp_ge (tgt := 22) C dX0_isOne_5 (by decide) (by omega) (by omega) (fun h => ?_) (fun h => ?_)
    · refine J.aload_n C dX0_isOne_22 rfl 0 rfl ?_
      refine J.iconst (v := nI 0) C dX0_isOne_23 (by decide) ?_
      refine J.iald C k_ia (by rw [n_ia]; omega) dX0_isOne_24 ?_
      refine J.eqi (hA 0 (by omega)) ?_
      refine J.iconst (v := nI 1) C dX0_isOne_25 (by decide) ?_
      rw [Nat.mod_eq_of_lt lA, Nat.pow_one] at hE
      have h0 : dgt 4294967296 A 0 = A := by unfold dgt; rw [Nat.pow_zero, Nat.div_one]; exact hE.symm
      refine J.icmp_ne (tgt := 33) C dX0_isOne_26 (by decide) (fun c => ?_) (fun c => ?_)
      · refine J.iconst (v := nI 0) C dX0_isOne_33 (by decide) ?_
        refine J.eqi (y := tf (A = 1)) (tf_f (fun q => c ?_)).symm ?_
        · rw [h0, q]
        · exact J.zret C tf_nar dX0_isOne_34 ⟨rfl, rfl, rfl⟩
      · refine J.iconst (v := nI 1) C dX0_isOne_29 (by decide) ?_
        refine J.goto (tgt := 34) C dX0_isOne_30 (by decide) ?_
        refine J.eqi (y := tf (A = 1)) (tf_t ?_).symm ?_
        · rw [← h0]; exact (w_inj (dgt_lt32 okb32 _ _) (by decide)).mp c
        · exact J.zret C tf_nar dX0_isOne_34 ⟨rfl, rfl, rfl⟩
    · exact absurd h (by omega)
  · intro k f' g' hk hI ih
    obtain ⟨rfl, rfl, hk1, hE⟩ := hI
    refine J.iload_n C dX0_isOne_2 rfl 1 rfl ?_
    refine J.bipush (v := nI 12) C dX0_isOne_3 (by decide) ?_
    refine J.ncmp_ge (tgt := 22) C dX0_isOne_5 (by decide) (by omega) (by omega) (fun h => ?_) (fun h => ?_)
    · exact absurd h (by omega)
    · refine J.aload_n C dX0_isOne_8 rfl 0 rfl ?_
      refine J.iload_n C dX0_isOne_9 rfl 1 rfl ?_
      refine J.iald C k_ia (by rw [n_ia]; omega) dX0_isOne_10 ?_
      refine J.eqi (hA k (by omega)) ?_
      refine J.if_eq (tgt := 16) C dX0_isOne_11 (by decide) (fun c => ?_) (fun c => ?_)
      · have hd : dgt 4294967296 A k = 0 := (w_inj (dgt_lt32 okb32 _ _) (by decide)).mp c
        refine J.inc (lv' := [(1, .int _), (0, .ref _)]) C dX0_isOne_16 1 rfl (by decide) rfl ?_
        refine J.goto (tgt := 2) C dX0_isOne_19 (by decide) ?_
        refine J.perm (lv' := [(0, .ref _), (1, .int _)]) [1, 0] rfl ?_
        exact ih _ _ ⟨rfl, rfl, by omega, by rw [mod_succ, hd, Nat.mul_zero, Nat.add_zero]; exact hE⟩
      · refine J.iconst (v := nI 0) C dX0_isOne_14 (by decide) ?_
        refine J.eqi (y := tf (A = 1)) (tf_f (fun q => c ?_)).symm ?_
        · subst q; rw [dgt_hi (n := 1) (by decide) hk1 okb32]; rfl
        · exact J.zret C tf_nar dX0_isOne_15 ⟨rfl, rfl, rfl⟩
set_option maxHeartbeats 4000000 in
set_option maxRecDepth 100000 in
theorem x_shift {l : Launch} {D : va_G} {d dL : ClassId} {a : Nat → Nat} {f : gF} {g : gG} {ia A : Nat} (k_ia : gOk 0 ia) (n_ia : gLen 0 ia = 12) (hA : Rd 4294967296 12 (f ia) A) (lA : A < 4294967296 ^ 12) : gMet l yX0_shift cX0_shift 2 none 0 0 D d dL 0 a [.ref (a ia)] f g (fun v f' g' => v = none ∧ g' = g ∧ nu 4294967296 12 f ia (A / 2) f') := by
  refine gMet.of (by decide) (Nat.le_of_ble_eq_true rfl) (fun z C => ?_)
  show J z f g 0 [(0, .ref (a ia))] []
  refine J.iconst (v := nI 0) C dX0_shift_0 (by decide) ?_
  refine J.istore_n (lv' := [(1, .int _), (0, .ref _)]) C dX0_shift_1 rfl (by decide) rfl ?_
  refine J.perm (lv' := [(0, .ref _), (1, .int _)]) [1, 0] rfl ?_
  refine J.loop (head := 2) 11 (fun k f' g' => g' = g ∧ fil f ia 0 (fun j => nI (dgt 4294967296 (A / 2) j)) k f') (fun k => [(0, .ref (a ia)), (1, .int (nI k))]) ?_ ?_ 11 0 _ _ rfl ⟨rfl, fil.zero⟩
  · intro f' g' hI
    obtain ⟨rfl, hI⟩ := hI
    refine J.iload_n C dX0_shift_2 rfl 1 rfl ?_
    refine J.bipush (v := nI 11) C dX0_shift_3 (by decide) ?_
    refine J.ncmp_ge (tgt := 31) C dX0_shift_5 (by decide) (by omega) (by omega) (fun h => ?_) (fun h => ?_)
    · refine J.aload_n C dX0_shift_31 rfl 0 rfl ?_
      refine J.bipush (v := nI 11) C dX0_shift_32 (by decide) ?_
      refine J.dup2 C dX0_shift_34 rfl rfl ?_
      refine J.iald C k_ia (by rw [n_ia]; omega) dX0_shift_35 ?_
      refine J.eqi ((hI.read ia (Nat.le_refl 11)).trans (hA 11 (by omega))) ?_
      refine J.iconst (v := nI 1) C dX0_shift_36 (by decide) ?_
      refine J.iushr C dX0_shift_37 ?_
      refine J.eqi (w_ushr1 (dgt_lt32 okb32 _ _)) ?_
      refine J.fast C hI k_ia (Nat.zero_add 11).symm (by rw [n_ia]; omega) (by rw [dgt_half okb32, dgt_hi (k := 11 + 1) lA (Nat.le_refl 12) okb32]; rfl) dX0_shift_38 (fun f' hI => ?_)
      exact J.vret C dX0_shift_39 ⟨rfl, rfl, hI.nu⟩
    · exact absurd h (by omega)
  · intro k f' g' hk hI ih
    obtain ⟨rfl, hI⟩ := hI
    refine J.iload_n C dX0_shift_2 rfl 1 rfl ?_
    refine J.bipush (v := nI 11) C dX0_shift_3 (by decide) ?_
    refine J.ncmp_ge (tgt := 31) C dX0_shift_5 (by decide) (by omega) (by omega) (fun h => ?_) (fun h => ?_)
    · exact absurd h (by omega)
    · refine J.aload_n C dX0_shift_8 rfl 0 rfl ?_
      refine J.iload_n C dX0_shift_9 rfl 1 rfl ?_
      refine J.aload_n C dX0_shift_10 rfl 0 rfl ?_
      refine J.iload_n C dX0_shift_11 rfl 1 rfl ?_
      refine J.iald C k_ia (by rw [n_ia]; omega) dX0_shift_12 ?_
      refine J.eqi ((hI.read ia (Nat.le_refl k)).trans (hA k (by omega))) ?_
      refine J.iconst (v := nI 1) C dX0_shift_13 (by decide) ?_
      refine J.iushr C dX0_shift_14 ?_
      refine J.aload_n C dX0_shift_15 rfl 0 rfl ?_
      refine J.iload_n C dX0_shift_16 rfl 1 rfl ?_
      refine J.iconst (v := nI 1) C dX0_shift_17 (by decide) ?_
      refine J.iadd C dX0_shift_18 ?_
      refine J.eqi (w_add k 1) ?_
      refine J.iald C k_ia (by rw [n_ia]; omega) dX0_shift_19 ?_
      refine J.eqi ((hI.read ia (Nat.le_succ k)).trans (hA (k + 1) (by omega))) ?_
      refine J.bipush (v := nI 31) C dX0_shift_20 (by decide) ?_
      refine J.ishl C dX0_shift_22 ?_
      refine J.ior C dX0_shift_23 ?_
      refine J.eqi (w_half (dgt_lt32 okb32 _ _) (dgt_lt32 okb32 _ _)) ?_
      refine J.fast C hI k_ia (Nat.zero_add k).symm (by rw [n_ia]; omega) (by rw [dgt_half okb32]) dX0_shift_24 (fun f' hI => ?_)
      refine J.inc (lv' := [(1, .int _), (0, .ref _)]) C dX0_shift_25 1 rfl (by decide) rfl ?_
      refine J.goto (tgt := 2) C dX0_shift_28 (by decide) ?_
      refine J.perm (lv' := [(0, .ref _), (1, .int _)]) [1, 0] rfl ?_
      exact ih _ _ ⟨rfl, hI⟩
/-- the four registers hold V 0 .. V 3, each in n places -/
def RG (b n : Nat) (h : Nat → Int32) (V : Nat → Nat) : Prop := ∀ r, r < 4 → Rd b n (fun k => h (r * n + k)) (V r)
theorem RG.put {b n : Nat} {f f' : gF} {V : Nat → Nat} {rr ifr X : Nat} (hR : RG b n (f 1) V) (hX : Rd b n (f ifr) X) (h : fil f 1 (rr * n) (fun j => f ifr j) n f') : RG b n (f' 1) (va_up V rr X) := by
  obtain ⟨h1, h2, -⟩ := h.at
  intro r hr k hk
  show f' 1 (r * n + k) = _
  by_cases e : r = rr
  · subst e
    rw [h1 k hk, va_up_self, hX k hk]
  · rw [va_up_ne _ _ e, h2 (r * n + k)]
    · exact hR r hr k hk
    rcases Nat.lt_or_gt_of_ne e with q | q
    · left
      have : (r + 1) * n ≤ rr * n := Nat.mul_le_mul_right n q
      rw [Nat.add_mul, Nat.one_mul] at this
      omega
    · right
      have : (rr + 1) * n ≤ r * n := Nat.mul_le_mul_right n q
      rw [Nat.add_mul, Nat.one_mul] at this
      omega
/-- the register that an int names -/
def rg (r : Int32) : Nat := r.toBitVec.toNat % 4
theorem rg_lt (r : Int32) : rg r < 4 := Nat.mod_lt _ (by decide)
set_option maxHeartbeats 4000000 in
set_option maxRecDepth 100000 in
theorem x_get {l : Launch} {D : va_G} {d dL : ClassId} {a : Nat → Nat} {f : gF} {g : gG} {it : Nat} {r : Int32} {V : Nat → Nat} (k_it : gOk 0 it) (n_it : gLen 0 it = 12) (hR : RG 4294967296 12 (f 1) V) : gMet l yX0_get cX0_get 5 none 0 0 D d dL 0 a [.ref (a 0), .int r, .ref (a it)] f g (fun v f' g' => v = none ∧ g' = g ∧ nu 4294967296 12 f it (V (rg r)) f') := by
  refine gMet.of (by decide) (Nat.le_of_ble_eq_true rfl) (fun z C => ?_)
  show J z f g 0 [(0, .ref (a 0)), (1, .int r), (2, .ref (a it))] []
  have hne : 1 ≠ it := fun e => by rw [← e] at n_it; exact absurd n_it (by decide)
  refine J.iload_n C dX0_get_0 rfl 1 rfl ?_
  refine J.iconst (v := nI 3) C dX0_get_1 (by decide) ?_
  refine J.iand C dX0_get_2 ?_
  refine J.eqi (w_and3 r) ?_
  refine J.bipush (v := nI 12) C dX0_get_3 (by decide) ?_
  refine J.imul C dX0_get_5 ?_
  refine J.eqi (pk_mul _ _) ?_
  refine J.istore_n (lv' := [(3, .int _), (0, .ref _), (1, .int _), (2, .ref _)]) C dX0_get_6 rfl (by decide) rfl ?_
  refine J.iconst (v := nI 0) C dX0_get_7 (by decide) ?_
  refine J.istore (lv' := [(4, .int _), (3, .int _), (0, .ref _), (1, .int _), (2, .ref _)]) C dX0_get_8 (by decide) rfl ?_
  refine J.perm (lv' := [(0, .ref _), (2, .ref _), (3, .int _), (4, .int _)]) [2, 4, 1, 0] rfl ?_
  refine J.loop (head := 10) 12 (fun k f' g' => g' = g ∧ fil f it 0 (fun j => nI (dgt 4294967296 (V (rg r)) j)) k f') (fun k => [(0, .ref (a 0)), (2, .ref (a it)), (3, .int (nI (rg r * 12))), (4, .int (nI k))]) ?_ ?_ 12 0 _ _ rfl ⟨rfl, fil.zero⟩
  · intro f' g' hI
    obtain ⟨rfl, hI⟩ := hI
    refine J.iload C dX0_get_10 3 rfl ?_
    refine J.bipush (v := nI 12) C dX0_get_12 (by decide) ?_
    refine J.ncmp_ge (tgt := 36) C dX0_get_14 (by decide) (by omega) (by omega) (fun h => ?_) (fun h => ?_)
    · exact J.vret C dX0_get_36 ⟨rfl, rfl, hI.nu⟩
    · exact absurd h (by omega)
  · intro k f' g' hk hI ih
    obtain ⟨rfl, hI⟩ := hI
    refine J.iload C dX0_get_10 3 rfl ?_
    refine J.bipush (v := nI 12) C dX0_get_12 (by decide) ?_
    refine J.ncmp_ge (tgt := 36) C dX0_get_14 (by decide) (by omega) (by omega) (fun h => ?_) (fun h => ?_)
    · exact absurd h (by omega)
    · refine J.aload_n C dX0_get_17 rfl 1 rfl ?_
      refine J.iload C dX0_get_18 3 rfl ?_
      refine J.aload_n C dX0_get_20 rfl 0 rfl ?_
      refine J.get0 C 0 (by decide) q42 dX0_get_21 ?_
      refine J.iload_n C dX0_get_24 rfl 2 rfl ?_
      refine J.iload C dX0_get_25 3 rfl ?_
      refine J.iadd C dX0_get_27 ?_
      refine J.eqi (w_add _ _) ?_
      refine J.iald C (gk (by decide)) (by have := rg_lt r; show rg r * 12 + k < 48; omega) dX0_get_28 ?_
      refine J.eqi (y := nI (dgt 4294967296 (V (rg r)) k)) (by rw [hI.other hne]; exact hR (rg r) (rg_lt r) k hk) ?_
      refine J.fast C hI k_it (Nat.zero_add k).symm (by rw [n_it]; omega) rfl dX0_get_29 (fun f' hI => ?_)
      refine J.inc (lv' := [(4, .int _), (0, .ref _), (2, .ref _), (3, .int _)]) C dX0_get_30 3 rfl (by decide) rfl ?_
      refine J.goto (tgt := 10) C dX0_get_33 (by decide) ?_
      refine J.perm (lv' := [(0, .ref _), (2, .ref _), (3, .int _), (4, .int _)]) [1, 2, 3, 0] rfl ?_
      exact ih _ _ ⟨rfl, hI⟩
set_option maxHeartbeats 4000000 in
set_option maxRecDepth 100000 in
theorem x_put {l : Launch} {D : va_G} {d dL : ClassId} {a : Nat → Nat} {f : gF} {g : gG} {it X : Nat} {r : Int32} {V : Nat → Nat} (k_it : gOk 0 it) (n_it : gLen 0 it = 12) (hR : RG 4294967296 12 (f 1) V) (hX : Rd 4294967296 12 (f it) X) : gMet l yX0_put cX0_put 5 none 0 0 D d dL 0 a [.ref (a 0), .int r, .ref (a it)] f g (fun v f' g' => v = none ∧ g' = g ∧ (∃ F, f' = va_up f 1 F) ∧ RG 4294967296 12 (f' 1) (va_up V (rg r) X)) := by
  refine gMet.of (by decide) (Nat.le_of_ble_eq_true rfl) (fun z C => ?_)
  show J z f g 0 [(0, .ref (a 0)), (1, .int r), (2, .ref (a it))] []
  have hne : 1 ≠ it := fun e => by rw [← e] at n_it; exact absurd n_it (by decide)
  refine J.iload_n C dX0_put_0 rfl 1 rfl ?_
  refine J.iconst (v := nI 3) C dX0_put_1 (by decide) ?_
  refine J.iand C dX0_put_2 ?_
  refine J.eqi (w_and3 r) ?_
  refine J.bipush (v := nI 12) C dX0_put_3 (by decide) ?_
  refine J.imul C dX0_put_5 ?_
  refine J.eqi (pk_mul _ _) ?_
  refine J.istore_n (lv' := [(3, .int _), (0, .ref _), (1, .int _), (2, .ref _)]) C dX0_put_6 rfl (by decide) rfl ?_
  refine J.iconst (v := nI 0) C dX0_put_7 (by decide) ?_
  refine J.istore (lv' := [(4, .int _), (3, .int _), (0, .ref _), (1, .int _), (2, .ref _)]) C dX0_put_8 (by decide) rfl ?_
  refine J.perm (lv' := [(0, .ref _), (2, .ref _), (3, .int _), (4, .int _)]) [2, 4, 1, 0] rfl ?_
  refine J.loop (head := 10) 12 (fun k f' g' => g' = g ∧ fil f 1 (rg r * 12) (fun j => f it j) k f') (fun k => [(0, .ref (a 0)), (2, .ref (a it)), (3, .int (nI (rg r * 12))), (4, .int (nI k))]) ?_ ?_ 12 0 _ _ rfl ⟨rfl, fil.zero⟩
  · intro f' g' hI
    obtain ⟨rfl, hI⟩ := hI
    refine J.iload C dX0_put_10 3 rfl ?_
    refine J.bipush (v := nI 12) C dX0_put_12 (by decide) ?_
    refine J.ncmp_ge (tgt := 36) C dX0_put_14 (by decide) (by omega) (by omega) (fun h => ?_) (fun h => ?_)
    · exact J.vret C dX0_put_36 ⟨rfl, rfl, ⟨_, hI.at.2.2⟩, hR.put hX hI⟩
    · exact absurd h (by omega)
  · intro k f' g' hk hI ih
    obtain ⟨rfl, hI⟩ := hI
    refine J.iload C dX0_put_10 3 rfl ?_
    refine J.bipush (v := nI 12) C dX0_put_12 (by decide) ?_
    refine J.ncmp_ge (tgt := 36) C dX0_put_14 (by decide) (by omega) (by omega) (fun h => ?_) (fun h => ?_)
    · exact absurd h (by omega)
    · refine J.aload_n C dX0_put_17 rfl 0 rfl ?_
      refine J.get0 C 0 (by decide) q42 dX0_put_18 ?_
      refine J.iload_n C dX0_put_21 rfl 2 rfl ?_
      refine J.iload C dX0_put_22 3 rfl ?_
      refine J.iadd C dX0_put_24 ?_
      refine J.eqi (w_add _ _) ?_
      refine J.aload_n C dX0_put_25 rfl 1 rfl ?_
      refine J.iload C dX0_put_26 3 rfl ?_
      refine J.iald C k_it (by rw [n_it]; omega) dX0_put_28 ?_
      refine J.eqi (by rw [hI.other hne.symm]) ?_
      refine J.fast C hI (gk (by decide)) rfl (by have := rg_lt r; show rg r * 12 + k < 48; omega) rfl dX0_put_29 (fun f' hI => ?_)
      refine J.inc (lv' := [(4, .int _), (0, .ref _), (2, .ref _), (3, .int _)]) C dX0_put_30 3 rfl (by decide) rfl ?_
      refine J.goto (tgt := 10) C dX0_put_33 (by decide) ?_
      refine J.perm (lv' := [(0, .ref _), (2, .ref _), (3, .int _), (4, .int _)]) [1, 2, 3, 0] rfl ?_
      exact ih _ _ ⟨rfl, hI⟩
end Xle
end
section
section Xmi
theorem nu.md {b n : Nat} {f f' : gF} {it V W : Nat} (hb : okb b) (h : nu b n f it V f') (e : V % b ^ n = W % b ^ n) : nu b n f it W f' := ⟨h.1, Rd.of_mod hb (e ▸ h.2.mod hb)⟩
theorem nu.rm {b n : Nat} {f f' : gF} {it V : Nat} (hb : okb b) (h : nu b n f it V f') : Rd b n (f' it) (V % b ^ n) := h.2.mod hb
theorem q_over {S : Nat} (h1 : 4294967296 ^ 12 ≤ S) (h2 : S < 2 * PP) : (S % 4294967296 ^ 12 + 4294967296 ^ 12 - PP) % 4294967296 ^ 12 = (S % PP) % 4294967296 ^ 12 := by
  have h3 := P12
  have h4 := P_half
  generalize 4294967296 ^ 12 = r at *
  have e1 : S % r = S - r := by rw [Nat.mod_eq_sub_mod h1, Nat.mod_eq_of_lt (by omega)]
  have e2 : S % PP = S - PP := by rw [Nat.mod_eq_sub_mod (by omega), Nat.mod_eq_of_lt (by omega)]
  rw [e1, e2, show S - r + r - PP = S - PP by omega]
theorem q_ge {S : Nat} (h1 : S < 4294967296 ^ 12) (h2 : PP ≤ S) : (S % 4294967296 ^ 12 + 4294967296 ^ 12 - PP) % 4294967296 ^ 12 = (S % PP) % 4294967296 ^ 12 := by
  have h3 := P12
  have h4 := P_half
  generalize 4294967296 ^ 12 = r at *
  have e1 : S % r = S := Nat.mod_eq_of_lt h1
  have e2 : S % PP = S - PP := by rw [Nat.mod_eq_sub_mod (by omega), Nat.mod_eq_of_lt (by omega)]
  rw [e1, e2]
  have e3 : S + r - PP = (S - PP) + r := by omega
  rw [e3, Nat.add_mod_right]
theorem q_div0 {S : Nat} (h : nI (S / 4294967296 ^ 12) = 0) (h2 : S < 2 * PP) : S < 4294967296 ^ 12 := by
  have h3 := P12
  have hz : 0 < 4294967296 ^ 12 := by decide
  have h5 : S / 4294967296 ^ 12 < 2 := by
    rw [Nat.div_lt_iff_lt_mul hz]
    omega
  have h6 : S / 4294967296 ^ 12 = 0 := (w_inj (by omega) (by decide)).mp h
  rcases Nat.div_eq_zero_iff.mp h6 with q | q
  · omega
  · exact q
theorem q_div1 {S : Nat} (h : ¬ nI (S / 4294967296 ^ 12) = 0) : 4294967296 ^ 12 ≤ S := by
  refine Classical.byContradiction fun q => h ?_
  rw [Nat.div_eq_of_lt (by omega)]
  rfl
set_option maxHeartbeats 4000000 in
set_option maxRecDepth 100000 in
theorem x_sumOf {l : Launch} {D : va_G} {d dL : ClassId} {a : Nat → Nat} {f : gF} {g : gG} {ia ib it A B : Nat} (k_ia : gOk 0 ia) (n_ia : gLen 0 ia = 12) (k_ib : gOk 0 ib) (n_ib : gLen 0 ib = 12) (k_it : gOk 0 it) (n_it : gLen 0 it = 12) (hne : 3 ≠ it) (hp : Rd 4294967296 12 (f 3) PP) (hA : Rd 4294967296 12 (f ia) A) (hB : Rd 4294967296 12 (f ib) B) (lA : A < PP) (lB : B < PP) : gMet l yX0_sumOf cX0_sumOf 5 none 1 25 D d dL 0 a [.ref (a 0), .ref (a ia), .ref (a ib), .ref (a it)] f g (fun v f' g' => v = none ∧ g' = g ∧ nu 4294967296 12 f it ((A + B) % PP) f') := by
  refine gMet.of (by decide) (Nat.le_of_ble_eq_true rfl) (fun z C => ?_)
  show J z f g 0 [(0, .ref (a 0)), (1, .ref (a ia)), (2, .ref (a ib)), (3, .ref (a it))] []
  refine J.aload_n C dX0_sumOf_0 rfl 1 rfl ?_
  refine J.aload_n C dX0_sumOf_1 rfl 2 rfl ?_
  refine J.aload_n C dX0_sumOf_2 rfl 3 rfl ?_
  refine J.callS (rest := []) C ((x_plus k_ia n_ia k_ib n_ib k_it n_it hA hB (Nat.lt_trans lA P12) (Nat.lt_trans lB P12))) q32 q33 q18 q34 (by show _ ≠ _ ∧ _ ≠ _ ∧ _ = some 3; decide +kernel) ⟨by decide, by decide⟩ rfl (by decide) dX0_sumOf_3 (fun v f1 g1 hR => ?_)
  obtain ⟨rfl, rfl, h1⟩ := hR
  refine J.eqs (st' := [.int _]) rfl ?_
  have hT := h1.rm okb32
  have hp1 : Rd 4294967296 12 (f1 3) PP := by rw [h1.ne hne]; exact hp
  have hS : A + B < 2 * PP := by omega
  refine J.istore (lv' := [(4, .int _), (0, .ref _), (1, .ref _), (2, .ref _), (3, .ref _)]) C dX0_sumOf_6 (by decide) rfl ?_
  refine J.iload C dX0_sumOf_8 0 rfl ?_
  refine J.if_ne (tgt := 24) C dX0_sumOf_10 (by decide) (fun c => ?_) (fun c => ?_)
  · refine J.aload_n C dX0_sumOf_24 rfl 4 rfl ?_
    refine J.aload_n C dX0_sumOf_25 rfl 1 rfl ?_
    refine J.get0 C 2 (by decide) q44 dX0_sumOf_26 ?_
    refine J.aload_n C dX0_sumOf_29 rfl 4 rfl ?_
    refine J.callS (rest := []) C (x_minus k_it n_it (gk (by decide)) rfl k_it n_it hT hp1 (Nat.mod_lt _ (by decide)) P12) q39 q40 q18 q41 (by show _ ≠ _ ∧ _ ≠ _ ∧ _ = some 3; decide +kernel) ⟨by decide, by decide⟩ rfl (by decide) dX0_sumOf_30 (fun v f2 g2 hR => ?_)
    obtain ⟨rfl, rfl, h2⟩ := hR
    refine J.eqs (st' := [.int _]) rfl ?_
    refine J.pop C dX0_sumOf_33 rfl ?_
    exact J.vret C dX0_sumOf_34 ⟨rfl, rfl, (h1.trans h2).md okb32 (q_over (q_div1 c) hS)⟩
  · refine J.aload_n C dX0_sumOf_13 rfl 4 rfl ?_
    refine J.aload_n C dX0_sumOf_14 rfl 1 rfl ?_
    refine J.get0 C 2 (by decide) q44 dX0_sumOf_15 ?_
    refine J.callS (rest := []) C (x_isLess k_it n_it (gk (by decide)) rfl hT hp1 (Nat.mod_lt _ (by decide)) P12) q36 q37 q18 q38 (by show _ ≠ _ ∧ _ ≠ _ ∧ _ = some 2; decide +kernel) ⟨by decide, by decide⟩ rfl (by decide) dX0_sumOf_18 (fun v f2 g2 hR => ?_)
    obtain ⟨rfl, rfl, rfl⟩ := hR
    refine J.eqs (st' := [.int _]) rfl ?_
    have c2 := q_div0 c hS
    refine J.if_ne (tgt := 34) C dX0_sumOf_21 (by decide) (fun c3 => ?_) (fun c3 => ?_)
    · have c4 : (A + B) % 4294967296 ^ 12 < PP := Classical.byContradiction fun q => c3 (tf_f q)
      rw [Nat.mod_eq_of_lt c2] at c4
      exact J.vret C dX0_sumOf_34 ⟨rfl, rfl, h1.val (Nat.mod_eq_of_lt c4).symm⟩
    · have c4 : ¬ (A + B) % 4294967296 ^ 12 < PP := fun q => absurd ((tf_t q).symm.trans c3) (by decide)
      rw [Nat.mod_eq_of_lt c2] at c4
      refine J.aload_n C dX0_sumOf_24 rfl 4 rfl ?_
      refine J.aload_n C dX0_sumOf_25 rfl 1 rfl ?_
      refine J.get0 C 2 (by decide) q44 dX0_sumOf_26 ?_
      refine J.aload_n C dX0_sumOf_29 rfl 4 rfl ?_
      refine J.callS (rest := []) C (x_minus k_it n_it (gk (by decide)) rfl k_it n_it hT hp1 (Nat.mod_lt _ (by decide)) P12) q39 q40 q18 q41 (by show _ ≠ _ ∧ _ ≠ _ ∧ _ = some 3; decide +kernel) ⟨by decide, by decide⟩ rfl (by decide) dX0_sumOf_30 (fun v f2 g2 hR => ?_)
      obtain ⟨rfl, rfl, h2⟩ := hR
      refine J.eqs (st' := [.int _]) rfl ?_
      refine J.pop C dX0_sumOf_33 rfl ?_
      exact J.vret C dX0_sumOf_34 ⟨rfl, rfl, (h1.trans h2).md okb32 (q_ge c2 (Nat.le_of_not_lt c4))⟩
theorem q_dif0 {A B : Nat} (h : B ≤ A) (lA : A < PP) : (A + 4294967296 ^ 12 - B) % 4294967296 ^ 12 = ((A + PP - B) % PP) % 4294967296 ^ 12 := by
  have h3 := P12
  generalize 4294967296 ^ 12 = r at *
  have e1 : A + r - B = (A - B) + r := by omega
  have e2 : A + PP - B = (A - B) + PP := by omega
  rw [e1, e2, Nat.add_mod_right, Nat.add_mod_right, Nat.mod_eq_of_lt (show A - B < PP by omega)]
theorem q_dif1 {A B : Nat} (h : A < B) (lB : B < PP) : ((A + 4294967296 ^ 12 - B) % 4294967296 ^ 12 + PP) % 4294967296 ^ 12 = ((A + PP - B) % PP) % 4294967296 ^ 12 := by
  have h3 := P12
  generalize 4294967296 ^ 12 = r at *
  rw [Nat.mod_eq_of_lt (show A + r - B < r by omega), Nat.mod_eq_of_lt (show A + PP - B < PP by omega)]
  have e1 : A + r - B + PP = (A + PP - B) + r := by omega
  rw [e1, Nat.add_mod_right]
set_option maxHeartbeats 4000000 in
set_option maxRecDepth 100000 in
theorem x_dif {l : Launch} {D : va_G} {d dL : ClassId} {a : Nat → Nat} {f : gF} {g : gG} {ia ib it A B : Nat} (k_ia : gOk 0 ia) (n_ia : gLen 0 ia = 12) (k_ib : gOk 0 ib) (n_ib : gLen 0 ib = 12) (k_it : gOk 0 it) (n_it : gLen 0 it = 12) (hne : 3 ≠ it) (hp : Rd 4294967296 12 (f 3) PP) (hA : Rd 4294967296 12 (f ia) A) (hB : Rd 4294967296 12 (f ib) B) (lA : A < PP) (lB : B < PP) : gMet l yX0_differenceOf cX0_differenceOf 4 none 1 25 D d dL 0 a [.ref (a 0), .ref (a ia), .ref (a ib), .ref (a it)] f g (fun v f' g' => v = none ∧ g' = g ∧ nu 4294967296 12 f it ((A + PP - B) % PP) f') := by
  refine gMet.of (by decide) (Nat.le_of_ble_eq_true rfl) (fun z C => ?_)
  show J z f g 0 [(0, .ref (a 0)), (1, .ref (a ia)), (2, .ref (a ib)), (3, .ref (a it))] []
  refine J.aload_n C dX0_differenceOf_0 rfl 1 rfl ?_
  refine J.aload_n C dX0_differenceOf_1 rfl 2 rfl ?_
  refine J.aload_n C dX0_differenceOf_2 rfl 3 rfl ?_
  refine J.callS (rest := []) C ((x_minus k_ia n_ia k_ib n_ib k_it n_it hA hB (Nat.lt_trans lA P12) (Nat.lt_trans lB P12))) q39 q40 q18 q41 (by show _ ≠ _ ∧ _ ≠ _ ∧ _ = some 3; decide +kernel) ⟨by decide, by decide⟩ rfl (by decide) dX0_differenceOf_3 (fun v f1 g1 hR => ?_)
  obtain ⟨rfl, rfl, h1⟩ := hR
  refine J.eqs (st' := [.int _]) rfl ?_
  have hT := h1.rm okb32
  have hp1 : Rd 4294967296 12 (f1 3) PP := by rw [h1.ne hne]; exact hp
  refine J.if_eq (tgt := 19) C dX0_differenceOf_6 (by decide) (fun c => ?_) (fun c => ?_)
  · have c2 : B ≤ A := Classical.byContradiction fun q => by rw [if_pos (Nat.lt_of_not_le q)] at c; exact absurd c (by decide)
    exact J.vret C dX0_differenceOf_19 ⟨rfl, rfl, h1.md okb32 (q_dif0 c2 lA)⟩
  · have c2 : A < B := Classical.byContradiction fun q => by rw [if_neg q] at c; exact c rfl
    refine J.aload_n C dX0_differenceOf_9 rfl 3 rfl ?_
    refine J.aload_n C dX0_differenceOf_10 rfl 0 rfl ?_
    refine J.get0 C 2 (by decide) q44 dX0_differenceOf_11 ?_
    refine J.aload_n C dX0_differenceOf_14 rfl 3 rfl ?_
    refine J.callS (rest := []) C (x_plus k_it n_it (gk (by decide)) rfl k_it n_it hT hp1 (Nat.mod_lt _ (by decide)) P12) q32 q33 q18 q34 (by show _ ≠ _ ∧ _ ≠ _ ∧ _ = some 3; decide +kernel) ⟨by decide, by decide⟩ rfl (by decide) dX0_differenceOf_15 (fun v f2 g2 hR => ?_)
    obtain ⟨rfl, rfl, h2⟩ := hR
    refine J.eqs (st' := [.int _]) rfl ?_
    refine J.pop C dX0_differenceOf_18 rfl ?_
    exact J.vret C dX0_differenceOf_19 ⟨rfl, rfl, (h1.trans h2).md okb32 (q_dif1 c2 lB)⟩
/-- half of A modulo the prime -/
def hf (A : Nat) : Nat := if A % 2 = 0 then A / 2 else (A + PP) / 2
theorem dgt_0' {b V : Nat} : dgt b V 0 = V % b := by unfold dgt; rw [Nat.pow_zero, Nat.div_one]
theorem q_top {S : Nat} (h : S < 2 * 4294967296 ^ 12) : dgt 4294967296 S (11 + 1) = S / 4294967296 ^ 12 := by
  unfold dgt
  refine Nat.mod_eq_of_lt ?_
  have : S / 4294967296 ^ (11 + 1) < 2 := by
    rw [Nat.div_lt_iff_lt_mul (by decide)]
    exact h
  omega
set_option maxHeartbeats 4000000 in
set_option maxRecDepth 100000 in
theorem x_half {l : Launch} {D : va_G} {d dL : ClassId} {a : Nat → Nat} {f : gF} {g : gG} {ia A : Nat} (k_ia : gOk 0 ia) (n_ia : gLen 0 ia = 12) (hne : 3 ≠ ia) (hp : Rd 4294967296 12 (f 3) PP) (hA : Rd 4294967296 12 (f ia) A) (lA : A < PP) : gMet l yX0_half cX0_half 4 none 1 25 D d dL 0 a [.ref (a 0), .ref (a ia)] f g (fun v f' g' => v = none ∧ g' = g ∧ nu 4294967296 12 f ia (hf A) f') := by
  refine gMet.of (by decide) (Nat.le_of_ble_eq_true rfl) (fun z C => ?_)
  show J z f g 0 [(0, .ref (a 0)), (1, .ref (a ia))] []
  have tail : ∀ (f1 : gF) (S : Nat), nu 4294967296 12 f ia S f1 → S < 2 * 4294967296 ^ 12 → S / 2 = hf A → J z f1 g 22 [(0, .ref (a 0)), (1, .ref (a ia))] [.int (nI (S / 4294967296 ^ 12))] := by
    intro f1 S hS lS eS
    refine J.istore_n (lv' := [(2, .int _), (0, .ref _), (1, .ref _)]) C dX0_half_22 rfl (by decide) rfl ?_
    refine J.iconst (v := nI 0) C dX0_half_23 (by decide) ?_
    refine J.istore_n (lv' := [(3, .int _), (2, .int _), (0, .ref _), (1, .ref _)]) C dX0_half_24 rfl (by decide) rfl ?_
    refine J.perm (lv' := [(0, .ref _), (1, .ref _), (2, .int _), (3, .int _)]) [2, 3, 1, 0] rfl ?_
    refine J.loop (head := 25) 11 (fun k f' g' => g' = g ∧ fil f1 ia 0 (fun j => nI (dgt 4294967296 (S / 2) j)) k f') (fun k => [(0, .ref (a 0)), (1, .ref (a ia)), (2, .int (nI (S / 4294967296 ^ 12))), (3, .int (nI k))]) ?_ ?_ 11 0 _ _ rfl ⟨rfl, fil.zero⟩
    · intro f' g' hI
      obtain ⟨rfl, hI⟩ := hI
      refine J.iload_n C dX0_half_25 rfl 3 rfl ?_
      refine J.bipush (v := nI 11) C dX0_half_26 (by decide) ?_
      refine J.ncmp_ge (tgt := 54) C dX0_half_28 (by decide) (by omega) (by omega) (fun h => ?_) (fun h => ?_)
      · refine J.aload_n C dX0_half_54 rfl 1 rfl ?_
        refine J.bipush (v := nI 11) C dX0_half_55 (by decide) ?_
        refine J.aload_n C dX0_half_57 rfl 1 rfl ?_
        refine J.bipush (v := nI 11) C dX0_half_58 (by decide) ?_
        refine J.iald C k_ia (by rw [n_ia]; omega) dX0_half_60 ?_
        refine J.eqi ((hI.read ia (Nat.le_refl 11)).trans (hS.2 11 (by omega))) ?_
        refine J.iconst (v := nI 1) C dX0_half_61 (by decide) ?_
        refine J.iushr C dX0_half_62 ?_
        refine J.iload_n C dX0_half_63 rfl 2 rfl ?_
        refine J.bipush (v := nI 31) C dX0_half_64 (by decide) ?_
        refine J.ishl C dX0_half_66 ?_
        refine J.ior C dX0_half_67 ?_
        refine J.eqi (w_half (dgt_lt32 okb32 _ _) (by rw [← q_top lS]; exact dgt_lt32 okb32 _ _)) ?_
        refine J.fast C hI k_ia (Nat.zero_add 11).symm (by rw [n_ia]; omega) (by rw [dgt_half okb32, q_top lS]) dX0_half_68 (fun f' hI => ?_)
        exact J.vret C dX0_half_69 ⟨rfl, rfl, (hS.trans hI.nu).val eS⟩
      · exact absurd h (by omega)
    · intro k f' g' hk hI ih
      obtain ⟨rfl, hI⟩ := hI
      refine J.iload_n C dX0_half_25 rfl 3 rfl ?_
      refine J.bipush (v := nI 11) C dX0_half_26 (by decide) ?_
      refine J.ncmp_ge (tgt := 54) C dX0_half_28 (by decide) (by omega) (by omega) (fun h => ?_) (fun h => ?_)
      · exact absurd h (by omega)
      · refine J.aload_n C dX0_half_31 rfl 1 rfl ?_
        refine J.iload_n C dX0_half_32 rfl 3 rfl ?_
        refine J.aload_n C dX0_half_33 rfl 1 rfl ?_
        refine J.iload_n C dX0_half_34 rfl 3 rfl ?_
        refine J.iald C k_ia (by rw [n_ia]; omega) dX0_half_35 ?_
        refine J.eqi ((hI.read ia (Nat.le_refl k)).trans (hS.2 k (by omega))) ?_
        refine J.iconst (v := nI 1) C dX0_half_36 (by decide) ?_
        refine J.iushr C dX0_half_37 ?_
        refine J.aload_n C dX0_half_38 rfl 1 rfl ?_
        refine J.iload_n C dX0_half_39 rfl 3 rfl ?_
        refine J.iconst (v := nI 1) C dX0_half_40 (by decide) ?_
        refine J.iadd C dX0_half_41 ?_
        refine J.eqi (w_add k 1) ?_
        refine J.iald C k_ia (by rw [n_ia]; omega) dX0_half_42 ?_
        refine J.eqi ((hI.read ia (Nat.le_succ k)).trans (hS.2 (k + 1) (by omega))) ?_
        refine J.bipush (v := nI 31) C dX0_half_43 (by decide) ?_
        refine J.ishl C dX0_half_45 ?_
        refine J.ior C dX0_half_46 ?_
        refine J.eqi (w_half (dgt_lt32 okb32 _ _) (dgt_lt32 okb32 _ _)) ?_
        refine J.fast C hI k_ia (Nat.zero_add k).symm (by rw [n_ia]; omega) (by rw [dgt_half okb32]) dX0_half_47 (fun f' hI => ?_)
        refine J.inc (lv' := [(3, .int _), (0, .ref _), (1, .ref _), (2, .int _)]) C dX0_half_48 3 rfl (by decide) rfl ?_
        refine J.goto (tgt := 25) C dX0_half_51 (by decide) ?_
        refine J.perm (lv' := [(0, .ref _), (1, .ref _), (2, .int _), (3, .int _)]) [1, 2, 3, 0] rfl ?_
        exact ih _ _ ⟨rfl, hI⟩
  refine J.aload_n C dX0_half_0 rfl 1 rfl ?_
  refine J.iconst (v := nI 0) C dX0_half_1 (by decide) ?_
  refine J.iald C k_ia (by rw [n_ia]; omega) dX0_half_2 ?_
  refine J.eqi (hA 0 (by decide)) ?_
  refine J.iconst (v := nI 1) C dX0_half_3 (by decide) ?_
  refine J.iand C dX0_half_4 ?_
  refine J.eqi (w_and (m := 1) 1 (dgt_lt32 okb32 _ _) rfl (by decide)) ?_
  refine J.iconst (v := nI 1) C dX0_half_5 (by decide) ?_
  refine J.icmp_ne (tgt := 21) C dX0_half_6 (by decide) (fun c => ?_) (fun c => ?_)
  · have c2 : A % 2 = 0 := by
      rcases Nat.mod_two_eq_zero_or_one A with q | q
      · exact q
      · exact absurd (by rw [dgt_0']; congr 1; omega) c
    refine J.iconst (v := nI 0) C dX0_half_21 (by decide) ?_
    have e0 : A / 4294967296 ^ 12 = 0 := Nat.div_eq_of_lt (Nat.lt_trans lA P12)
    refine J.eqi (y := nI (A / 4294967296 ^ 12)) (by rw [e0]) ?_
    exact tail f A (nu.self hA) (by have := P12; omega) (by unfold hf; rw [if_pos c2])
  · have c2 : ¬ A % 2 = 0 := fun q => by
      have e1 : dgt 4294967296 A 0 % 2 ^ 1 = 0 := by rw [dgt_0']; omega
      rw [e1] at c
      exact absurd c (by decide)
    refine J.aload_n C dX0_half_9 rfl 1 rfl ?_
    refine J.aload_n C dX0_half_10 rfl 0 rfl ?_
    refine J.get0 C 2 (by decide) q44 dX0_half_11 ?_
    refine J.aload_n C dX0_half_14 rfl 1 rfl ?_
    refine J.callS (rest := []) C (x_plus k_ia n_ia (gk (by decide)) rfl k_ia n_ia hA hp (Nat.lt_trans lA P12) P12) q32 q33 q18 q34 (by show _ ≠ _ ∧ _ ≠ _ ∧ _ = some 3; decide +kernel) ⟨by decide, by decide⟩ rfl (by decide) dX0_half_15 (fun v f1 g1 hR => ?_)
    obtain ⟨rfl, rfl, h1⟩ := hR
    refine J.eqs (st' := [.int _]) rfl ?_
    refine J.goto (tgt := 22) C dX0_half_18 (by decide) ?_
    exact tail f1 (A + PP) h1 (by have := P12; omega) (by unfold hf; rw [if_neg c2])
/-- the sum's longs hold the digits of S -/
def Rl (g : gG) (S : Nat) : Prop := ∀ k, k < 14 → g k = lN (dgt 4294967296 S k)
def filL (g : gG) (v : Nat → Int64) (k : Nat) (g' : gG) : Prop := (∀ j, j < k → g' j = v j) ∧ ∀ j, k ≤ j → g' j = g j
theorem filL.zero {g : gG} {v : Nat → Int64} : filL g v 0 g := ⟨fun j h => by omega, fun j _ => rfl⟩
theorem filL.next {g g' : gG} {v : Nat → Int64} {k : Nat} (h : filL g v k g') {x : Int64} (hx : x = v k) : filL g v (k + 1) (vp_updL g' k x) := by
  refine ⟨fun j hj => ?_, fun j hj => ?_⟩
  · by_cases e : j = k
    · subst e; rw [pk_uLs, hx]
    · rw [pk_uLn e, h.1 j (by omega)]
  · rw [pk_uLn (by omega), h.2 j (by omega)]
theorem q_t {Y A S k : Nat} (hY : Y < 4294967296) : pc 4294967296 Y A S k + (Y * dgt 4294967296 A k + dgt 4294967296 S k) < 18446744073709551616 := by
  have h1 := pc_lt okb32 hY A S k
  have h2 := dgt_lt okb32 A k
  have h3 := dgt_lt okb32 S k
  have h4 : Y * dgt 4294967296 A k ≤ 4294967295 * 4294967295 := Nat.mul_le_mul (by omega) (by omega)
  omega
theorem q_13 {Y A S : Nat} (lA : A < 4294967296 ^ 12) (lS : S + Y * A < 4294967296 ^ 14) : dgt 4294967296 S 13 + pc 4294967296 Y A S 13 = dgt 4294967296 (S + Y * A) 13 := by
  have h1 := dgt_mul okb32 Y A S 13
  have h2 := pc_succ okb32 Y A S 13
  rw [dgt_hi lA (by decide) okb32, Nat.mul_zero, Nat.zero_add] at h1 h2
  have h3 : pc 4294967296 Y A S (13 + 1) = 0 := by
    unfold pc
    refine Nat.div_eq_of_lt ?_
    rw [Nat.mod_eq_of_lt (Nat.lt_trans lA (by decide)), Nat.mod_eq_of_lt (show S < 4294967296 ^ (13 + 1) from Nat.lt_of_le_of_lt (Nat.le_add_right _ _) lS), Nat.add_comm]
    exact lS
  rw [h3] at h2
  rw [← h1]
  omega
set_option maxHeartbeats 4000000 in
set_option maxRecDepth 100000 in
theorem x_addProduct {l : Launch} {D : va_G} {d dL : ClassId} {a : Nat → Nat} {f : gF} {g : gG} {ia A S Y : Nat} (k_ia : gOk 0 ia) (n_ia : gLen 0 ia = 12) (hA : Rd 4294967296 12 (f ia) A) (lA : A < 4294967296 ^ 12) (hS : Rl g S) (hY : Y < 4294967296) (lS : S + Y * A < 4294967296 ^ 14) : gMet l yX0_addProduct cX0_addProduct 7 none 0 0 D d dL 0 a [.ref (a 0), .long (lN Y), .ref (a ia)] f g (fun v f' g' => v = none ∧ f' = f ∧ Rl g' (S + Y * A)) := by
  refine gMet.of (by decide) (Nat.le_of_ble_eq_true rfl) (fun z C => ?_)
  show J z f g 0 [(0, .ref (a 0)), (1, .long (lN Y)), (3, .ref (a ia))] []
  refine J.lconst (v := lN 0) C dX0_addProduct_0 rfl ?_
  refine J.eql (y := lN (pc 4294967296 Y A S 0)) (by rw [pc_0]) ?_
  refine J.lstore (lv' := [(4, .long _), (0, .ref _), (1, .long _), (3, .ref _)]) C dX0_addProduct_1 (by decide) rfl ?_
  refine J.iconst (v := nI 0) C dX0_addProduct_3 (by decide) ?_
  refine J.istore (lv' := [(6, .int _), (4, .long _), (0, .ref _), (1, .long _), (3, .ref _)]) C dX0_addProduct_4 (by decide) rfl ?_
  refine J.perm (lv' := [(0, .ref _), (1, .long _), (3, .ref _), (4, .long _), (6, .int _)]) [2, 3, 4, 1, 0] rfl ?_
  refine J.loop (head := 6) 12 (fun k f' g' => f' = f ∧ filL g (fun j => lN (dgt 4294967296 (S + Y * A) j)) k g') (fun k => [(0, .ref (a 0)), (1, .long (lN Y)), (3, .ref (a ia)), (4, .long (lN (pc 4294967296 Y A S k))), (6, .int (nI k))]) ?_ ?_ 12 0 _ _ rfl ⟨rfl, filL.zero⟩
  · intro f' g' hI
    obtain ⟨rfl, hI⟩ := hI
    refine J.iload C dX0_addProduct_6 4 rfl ?_
    refine J.bipush (v := nI 12) C dX0_addProduct_8 (by decide) ?_
    refine J.ncmp_ge (tgt := 63) C dX0_addProduct_10 (by decide) (by omega) (by omega) (fun h => ?_) (fun h => ?_)
    · refine J.lload C dX0_addProduct_63 3 rfl ?_
      refine J.aload_n C dX0_addProduct_65 rfl 0 rfl ?_
      refine J.get0 C 4 (by decide) q46 dX0_addProduct_66 ?_
      refine J.bipush (v := nI 12) C dX0_addProduct_69 (by decide) ?_
      refine J.lald C (by omega) dX0_addProduct_71 ?_
      refine J.eql ((hI.2 12 (Nat.le_refl 12)).trans (hS 12 (by decide))) ?_
      refine J.ladd C dX0_addProduct_72 ?_
      refine J.eql (lN_add _ _) ?_
      refine J.eql (y := lN (pc 4294967296 Y A S 12 + (Y * dgt 4294967296 A 12 + dgt 4294967296 S 12))) (by rw [dgt_hi lA (Nat.le_refl 12) okb32, Nat.mul_zero, Nat.zero_add]) ?_
      refine J.lstore (lv' := [(4, .long _), (0, .ref _), (1, .long _), (3, .ref _), (6, .int _)]) C dX0_addProduct_73 (by decide) rfl ?_
      refine J.aload_n C dX0_addProduct_75 rfl 1 rfl ?_
      refine J.get0 C 4 (by decide) q46 dX0_addProduct_76 ?_
      refine J.bipush (v := nI 12) C dX0_addProduct_79 (by decide) ?_
      refine J.lload C dX0_addProduct_81 0 rfl ?_
      refine J.ldc2 C q35 dX0_addProduct_83 ?_
      refine J.land C dX0_addProduct_86 ?_
      refine J.eql (w_land (q_t hY)) ?_
      refine J.last C (by omega) dX0_addProduct_87 ?_
      have hI := hI.next (x := lN ((pc 4294967296 Y A S 12 + (Y * dgt 4294967296 A 12 + dgt 4294967296 S 12)) % 4294967296)) (by rw [dgt_mul okb32])
      refine J.aload_n C dX0_addProduct_88 rfl 1 rfl ?_
      refine J.get0 C 4 (by decide) q46 dX0_addProduct_89 ?_
      refine J.bipush (v := nI 13) C dX0_addProduct_92 (by decide) ?_
      refine J.dup2 C dX0_addProduct_94 rfl rfl ?_
      refine J.lald C (by omega) dX0_addProduct_95 ?_
      refine J.eql ((hI.2 13 (Nat.le_refl 13)).trans (hS 13 (by decide))) ?_
      refine J.lload C dX0_addProduct_96 0 rfl ?_
      refine J.bipush (v := nI 32) C dX0_addProduct_98 (by decide) ?_
      refine J.lushr C dX0_addProduct_100 ?_
      refine J.eql (w_lushr (q_t hY)) ?_
      refine J.eql (congrArg lN (pc_succ okb32 Y A S 12)) ?_
      refine J.ladd C dX0_addProduct_101 ?_
      refine J.eql (lN_add _ _) ?_
      refine J.last C (by omega) dX0_addProduct_102 ?_
      have hI := hI.next (x := lN (dgt 4294967296 S 13 + pc 4294967296 Y A S (12 + 1))) (by rw [q_13 lA lS])
      exact J.vret C dX0_addProduct_103 ⟨rfl, rfl, hI.1⟩
    · exact absurd h (by omega)
  · intro k f' g' hk hI ih
    obtain ⟨rfl, hI⟩ := hI
    refine J.iload C dX0_addProduct_6 4 rfl ?_
    refine J.bipush (v := nI 12) C dX0_addProduct_8 (by decide) ?_
    refine J.ncmp_ge (tgt := 63) C dX0_addProduct_10 (by decide) (by omega) (by omega) (fun h => ?_) (fun h => ?_)
    · exact absurd h (by omega)
    · refine J.lload C dX0_addProduct_13 3 rfl ?_
      refine J.lload_n C dX0_addProduct_15 rfl 1 rfl ?_
      refine J.aload_n C dX0_addProduct_16 rfl 2 rfl ?_
      refine J.iload C dX0_addProduct_17 4 rfl ?_
      refine J.iald C k_ia (by rw [n_ia]; omega) dX0_addProduct_19 ?_
      refine J.eqi (hA k hk) ?_
      refine J.i2l C dX0_addProduct_20 ?_
      refine J.ldc2 C q35 dX0_addProduct_21 ?_
      refine J.land C dX0_addProduct_24 ?_
      refine J.eql (w_i2l (dgt_lt32 okb32 _ _)) ?_
      refine J.lmul C dX0_addProduct_25 ?_
      refine J.eql (lN_mul _ _) ?_
      refine J.aload_n C dX0_addProduct_26 rfl 0 rfl ?_
      refine J.get0 C 4 (by decide) q46 dX0_addProduct_27 ?_
      refine J.iload C dX0_addProduct_30 4 rfl ?_
      refine J.lald C (by omega) dX0_addProduct_32 ?_
      refine J.eql ((hI.2 k (Nat.le_refl k)).trans (hS k (by omega))) ?_
      refine J.ladd C dX0_addProduct_33 ?_
      refine J.eql (lN_add _ _) ?_
      refine J.ladd C dX0_addProduct_34 ?_
      refine J.eql (lN_add _ _) ?_
      refine J.lstore (lv' := [(4, .long _), (0, .ref _), (1, .long _), (3, .ref _), (6, .int _)]) C dX0_addProduct_35 (by decide) rfl ?_
      refine J.aload_n C dX0_addProduct_37 rfl 1 rfl ?_
      refine J.get0 C 4 (by decide) q46 dX0_addProduct_38 ?_
      refine J.iload C dX0_addProduct_41 4 rfl ?_
      refine J.lload C dX0_addProduct_43 0 rfl ?_
      refine J.ldc2 C q35 dX0_addProduct_45 ?_
      refine J.land C dX0_addProduct_48 ?_
      refine J.eql (w_land (q_t hY)) ?_
      refine J.last C (by omega) dX0_addProduct_49 ?_
      have hI := hI.next (x := lN ((pc 4294967296 Y A S k + (Y * dgt 4294967296 A k + dgt 4294967296 S k)) % 4294967296)) (by rw [dgt_mul okb32])
      refine J.lload C dX0_addProduct_50 0 rfl ?_
      refine J.bipush (v := nI 32) C dX0_addProduct_52 (by decide) ?_
      refine J.lushr C dX0_addProduct_54 ?_
      refine J.eql (w_lushr (q_t hY)) ?_
      refine J.eql (congrArg lN (pc_succ okb32 Y A S k)) ?_
      refine J.lstore (lv' := [(4, .long _), (0, .ref _), (1, .long _), (3, .ref _), (6, .int _)]) C dX0_addProduct_55 (by decide) rfl ?_
      refine J.inc (lv' := [(6, .int _), (4, .long _), (0, .ref _), (1, .long _), (3, .ref _)]) C dX0_addProduct_57 4 rfl (by decide) rfl ?_
      refine J.goto (tgt := 6) C dX0_addProduct_60 (by decide) ?_
      refine J.perm (lv' := [(0, .ref _), (1, .long _), (3, .ref _), (4, .long _), (6, .int _)]) [2, 3, 4, 1, 0] rfl ?_
      exact ih _ _ ⟨rfl, hI⟩
end Xmi
end
section
section Xmo
section NC
variable {z : gZ} {l : Launch} {cc : ByteArray} {own : String} {ci : Nat} {a : Nat → Nat} {D : va_G} {d dL : ClassId} {nL : Nat} {ret : Option FieldType} {Rv : Option Value → gF → gG → Prop} {R : Room} {f : gF} {g : gG} {pc : Nat} {lv : List (Nat × Value)} {st : List Value}
theorem J.ncmp_gt (C : gOK z l cc own ci a D d dL nL ret Rv R) {m n : Nat} {off : Int} {tgt : Nat} (hdg : decode cc pc = .ok (.if_icmp .gt off, 3)) (ht : (pc : Int) + off = (tgt : Int)) (hm : m < 2 ^ 31) (hn : n < 2 ^ 31) (kt : n < m → J z f g tgt lv st) (kf : m ≤ n → J z f g (pc + 3) lv st) : J z f g pc lv (.int (nI n) :: .int (nI m) :: st) := J.icmp_gt C hdg ht (fun c => kt ((nI_ltI hn hm).mp c)) (fun c => kf (Nat.le_of_not_lt fun q => c ((nI_ltI hn hm).mpr q)))
theorem J.ncmp_lt (C : gOK z l cc own ci a D d dL nL ret Rv R) {m n : Nat} {off : Int} {tgt : Nat} (hdg : decode cc pc = .ok (.if_icmp .lt off, 3)) (ht : (pc : Int) + off = (tgt : Int)) (hm : m < 2 ^ 31) (hn : n < 2 ^ 31) (kt : m < n → J z f g tgt lv st) (kf : n ≤ m → J z f g (pc + 3) lv st) : J z f g pc lv (.int (nI n) :: .int (nI m) :: st) := J.icmp_lt C hdg ht (fun c => kt ((nI_ltI hm hn).mp c)) (fun c => kf (Nat.le_of_not_lt fun q => c ((nI_ltI hm hn).mpr q)))
end NC
theorem mg_P : PP % 4294967296 = 4294967295 := by decide +kernel
theorem mg_0 {S1 : Nat} : (S1 + dgt 4294967296 S1 0 * PP) % 4294967296 = 0 := by
  rw [dgt_0']
  have h := mg_P
  have e := Nat.div_add_mod PP 4294967296
  rw [h] at e
  have e1 := Nat.div_add_mod S1 4294967296
  generalize S1 % 4294967296 = m at *
  generalize PP / 4294967296 = Q at *
  rw [← e, Nat.mul_add, Nat.mul_left_comm]
  generalize m * Q = u at *
  omega
theorem mg_lt {S B y m : Nat} (hS : S < B + PP) (hB : B < PP) (hy : y < 4294967296) (hm : m < 4294967296) : S + y * B < 4294967296 ^ 14 ∧ S + y * B + m * PP < 4294967296 ^ 14 ∧ (S + y * B + m * PP) / 4294967296 < B + PP := by
  have h1 : y * B ≤ 4294967295 * B := Nat.mul_le_mul_right B (by omega)
  have h2 : m * PP ≤ 4294967295 * PP := Nat.mul_le_mul_right PP (by omega)
  have h3 : 8589934592 * PP < 4294967296 ^ 14 := by decide +kernel
  refine ⟨by omega, by omega, ?_⟩
  rw [Nat.div_lt_iff_lt_mul (by decide)]
  omega
theorem mg_eq {S A B i : Nat} (hE : (S * 4294967296 ^ i) % PP = (A % 4294967296 ^ i * B) % PP) {m : Nat} (h0 : (S + dgt 4294967296 A i * B + m * PP) % 4294967296 = 0) : ((S + dgt 4294967296 A i * B + m * PP) / 4294967296 * 4294967296 ^ (i + 1)) % PP = (A % 4294967296 ^ (i + 1) * B) % PP := by
  have e1 : (S + dgt 4294967296 A i * B + m * PP) / 4294967296 * 4294967296 ^ (i + 1) = S * 4294967296 ^ i + dgt 4294967296 A i * B * 4294967296 ^ i + PP * (m * 4294967296 ^ i) := by
    rw [Nat.pow_succ, Nat.mul_comm (4294967296 ^ i), ← Nat.mul_assoc, Nat.div_mul_cancel (Nat.dvd_of_mod_eq_zero h0), Nat.add_mul, Nat.add_mul, Nat.mul_comm m PP, Nat.mul_assoc PP]
  have e2 : A % 4294967296 ^ (i + 1) * B = A % 4294967296 ^ i * B + dgt 4294967296 A i * B * 4294967296 ^ i := by
    rw [mod_succ, Nat.add_mul, Nat.mul_comm (4294967296 ^ i), Nat.mul_right_comm]
  rw [e1, e2, Nat.add_mul_mod_self_left, Nat.add_mod, hE, ← Nat.add_mod]
theorem mg_dgt (S k : Nat) : dgt 4294967296 (S / 4294967296) k = dgt 4294967296 S (k + 1) := by
  unfold dgt
  rw [Nat.div_div_eq_div_mul, Nat.pow_succ, Nat.mul_comm 4294967296]
theorem dgt_top {S : Nat} (h : S < 2 * PP) : dgt 4294967296 S 12 = S / 4294967296 ^ 12 := q_top (by have := P12; omega)
set_option maxHeartbeats 4000000 in
set_option maxRecDepth 100000 in
theorem x_mont {l : Launch} {D : va_G} {d dL : ClassId} {a : Nat → Nat} {f : gF} {g : gG} {ia ib it A B : Nat} (k_ia : gOk 0 ia) (n_ia : gLen 0 ia = 12) (k_ib : gOk 0 ib) (n_ib : gLen 0 ib = 12) (k_it : gOk 0 it) (n_it : gLen 0 it = 12) (hne : 3 ≠ it) (hp : Rd 4294967296 12 (f 3) PP) (hA : Rd 4294967296 12 (f ia) A) (hB : Rd 4294967296 12 (f ib) B) (lA : A < 4294967296 ^ 12) (lB : B < PP) : gMet l yX0_montgomery cX0_montgomery 6 none 1 26 D d dL 0 a [.ref (a 0), .ref (a ia), .ref (a ib), .ref (a it)] f g (fun v f' g' => v = none ∧ ∃ T, T < PP ∧ (T * 4294967296 ^ 12) % PP = (A * B) % PP ∧ nu 4294967296 12 f it T f') := by
  refine gMet.of (by decide) (Nat.le_of_ble_eq_true rfl) (fun z C => ?_)
  show J z f g 0 [(0, .ref (a 0)), (1, .ref (a ia)), (2, .ref (a ib)), (3, .ref (a it))] []
  have tail : ∀ (gS : gG) (S : Nat) (ov : Int32), Rl gS S → S < 2 * PP → (S * 4294967296 ^ 12) % PP = (A * B) % PP → ov = tf (4294967296 ^ 12 ≤ S) → J z f gS 128 [(0, .ref (a 0)), (1, .ref (a ia)), (2, .ref (a ib)), (3, .ref (a it))] [.int ov] := by
    intro gS S ov hS lS eS eov
    have eT : ∀ T, T = S % PP → (T * 4294967296 ^ 12) % PP = (A * B) % PP := fun T e => by rw [e, Nat.mul_mod, Nat.mod_mod, ← Nat.mul_mod, eS]
    refine J.istore (lv' := [(4, .int _), (0, .ref _), (1, .ref _), (2, .ref _), (3, .ref _)]) C dX0_montgomery_128 (by decide) rfl ?_
    refine J.iconst (v := nI 0) C dX0_montgomery_130 (by decide) ?_
    refine J.istore (lv' := [(5, .int _), (4, .int _), (0, .ref _), (1, .ref _), (2, .ref _), (3, .ref _)]) C dX0_montgomery_131 (by decide) rfl ?_
    refine J.perm (lv' := [(0, .ref _), (3, .ref _), (4, .int _), (5, .int _)]) [2, 5, 1, 0] rfl ?_
    refine J.loop (head := 133) 12 (fun k f' g' => g' = gS ∧ fil f it 0 (fun j => nI (dgt 4294967296 S j)) k f') (fun k => [(0, .ref (a 0)), (3, .ref (a it)), (4, .int ov), (5, .int (nI k))]) ?_ ?_ 12 0 _ _ rfl ⟨rfl, fil.zero⟩
    · intro f' g' hI
      obtain ⟨rfl, hI⟩ := hI
      refine J.iload C dX0_montgomery_133 3 rfl ?_
      refine J.bipush (v := nI 12) C dX0_montgomery_135 (by decide) ?_
      refine J.ncmp_ge (tgt := 158) C dX0_montgomery_137 (by decide) (by omega) (by omega) (fun h => ?_) (fun h => ?_)
      · have h1 := hI.nu
        have hT := h1.rm okb32
        have hp1 : Rd 4294967296 12 (f' 3) PP := by rw [h1.ne hne]; exact hp
        refine J.iload C dX0_montgomery_158 2 rfl ?_
        refine J.if_ne (tgt := 174) C dX0_montgomery_160 (by decide) (fun c => ?_) (fun c => ?_)
        · have c2 : 4294967296 ^ 12 ≤ S := Classical.byContradiction fun q => c (by rw [eov, tf_f q]; rfl)
          refine J.aload_n C dX0_montgomery_174 rfl 1 rfl ?_
          refine J.aload_n C dX0_montgomery_175 rfl 0 rfl ?_
          refine J.get0 C 2 (by decide) q44 dX0_montgomery_176 ?_
          refine J.aload_n C dX0_montgomery_179 rfl 1 rfl ?_
          refine J.callS (rest := []) C (x_minus k_it n_it (gk (by decide)) rfl k_it n_it hT hp1 (Nat.mod_lt _ (by decide)) P12) q39 q40 q18 q41 (by show _ ≠ _ ∧ _ ≠ _ ∧ _ = some 3; decide +kernel) ⟨by decide, by decide⟩ rfl (by decide) dX0_montgomery_180 (fun v f2 g2 hR => ?_)
          obtain ⟨rfl, rfl, h2⟩ := hR
          refine J.eqs (st' := [.int _]) rfl ?_
          refine J.pop C dX0_montgomery_183 rfl ?_
          exact J.vret C dX0_montgomery_184 ⟨rfl, S % PP, Nat.mod_lt _ (by decide), eT _ rfl, (h1.trans h2).md okb32 (q_over c2 lS)⟩
        · have c2 : S < 4294967296 ^ 12 := Classical.byContradiction fun q => by rw [eov, tf_t (Nat.le_of_not_lt q)] at c; exact absurd c (by decide)
          refine J.aload_n C dX0_montgomery_163 rfl 1 rfl ?_
          refine J.aload_n C dX0_montgomery_164 rfl 0 rfl ?_
          refine J.get0 C 2 (by decide) q44 dX0_montgomery_165 ?_
          refine J.callS (rest := []) C (x_isLess k_it n_it (gk (by decide)) rfl hT hp1 (Nat.mod_lt _ (by decide)) P12) q36 q37 q18 q38 (by show _ ≠ _ ∧ _ ≠ _ ∧ _ = some 2; decide +kernel) ⟨by decide, by decide⟩ rfl (by decide) dX0_montgomery_168 (fun v f2 g2 hR => ?_)
          obtain ⟨rfl, rfl, rfl⟩ := hR
          refine J.eqs (st' := [.int _]) rfl ?_
          refine J.if_ne (tgt := 184) C dX0_montgomery_171 (by decide) (fun c3 => ?_) (fun c3 => ?_)
          · have c4 : S % 4294967296 ^ 12 < PP := Classical.byContradiction fun q => c3 (tf_f q)
            rw [Nat.mod_eq_of_lt c2] at c4
            exact J.vret C dX0_montgomery_184 ⟨rfl, S % PP, Nat.mod_lt _ (by decide), eT _ rfl, h1.val (Nat.mod_eq_of_lt c4).symm⟩
          · have c4 : ¬ S % 4294967296 ^ 12 < PP := fun q => absurd ((tf_t q).symm.trans c3) (by decide)
            rw [Nat.mod_eq_of_lt c2] at c4
            refine J.aload_n C dX0_montgomery_174 rfl 1 rfl ?_
            refine J.aload_n C dX0_montgomery_175 rfl 0 rfl ?_
            refine J.get0 C 2 (by decide) q44 dX0_montgomery_176 ?_
            refine J.aload_n C dX0_montgomery_179 rfl 1 rfl ?_
            refine J.callS (rest := []) C (x_minus k_it n_it (gk (by decide)) rfl k_it n_it hT hp1 (Nat.mod_lt _ (by decide)) P12) q39 q40 q18 q41 (by show _ ≠ _ ∧ _ ≠ _ ∧ _ = some 3; decide +kernel) ⟨by decide, by decide⟩ rfl (by decide) dX0_montgomery_180 (fun v f2 g2 hR => ?_)
            obtain ⟨rfl, rfl, h2⟩ := hR
            refine J.eqs (st' := [.int _]) rfl ?_
            refine J.pop C dX0_montgomery_183 rfl ?_
            exact J.vret C dX0_montgomery_184 ⟨rfl, S % PP, Nat.mod_lt _ (by decide), eT _ rfl, (h1.trans h2).md okb32 (q_ge c2 (Nat.le_of_not_lt c4))⟩
      · exact absurd h (by omega)
    · intro k f' g' hk hI ih
      obtain ⟨rfl, hI⟩ := hI
      refine J.iload C dX0_montgomery_133 3 rfl ?_
      refine J.bipush (v := nI 12) C dX0_montgomery_135 (by decide) ?_
      refine J.ncmp_ge (tgt := 158) C dX0_montgomery_137 (by decide) (by omega) (by omega) (fun h => ?_) (fun h => ?_)
      · exact absurd h (by omega)
      · refine J.aload_n C dX0_montgomery_140 rfl 1 rfl ?_
        refine J.iload C dX0_montgomery_141 3 rfl ?_
        refine J.aload_n C dX0_montgomery_143 rfl 0 rfl ?_
        refine J.get0 C 4 (by decide) q46 dX0_montgomery_144 ?_
        refine J.iload C dX0_montgomery_147 3 rfl ?_
        refine J.lald C (by omega) dX0_montgomery_149 ?_
        refine J.eql (hS k (by omega)) ?_
        refine J.l2i C dX0_montgomery_150 ?_
        refine J.eqi (w_l2i _) ?_
        refine J.fast C hI k_it (Nat.zero_add k).symm (by rw [n_it]; omega) rfl dX0_montgomery_151 (fun f' hI => ?_)
        refine J.inc (lv' := [(5, .int _), (0, .ref _), (3, .ref _), (4, .int _)]) C dX0_montgomery_152 3 rfl (by decide) rfl ?_
        refine J.goto (tgt := 133) C dX0_montgomery_155 (by decide) ?_
        refine J.perm (lv' := [(0, .ref _), (3, .ref _), (4, .int _), (5, .int _)]) [1, 2, 3, 0] rfl ?_
        exact ih _ _ ⟨rfl, hI⟩
  refine J.iconst (v := nI 0) C dX0_montgomery_0 (by decide) ?_
  refine J.istore (lv' := [(4, .int _), (0, .ref _), (1, .ref _), (2, .ref _), (3, .ref _)]) C dX0_montgomery_1 (by decide) rfl ?_
  refine J.perm (lv' := [(0, .ref _), (1, .ref _), (2, .ref _), (3, .ref _), (4, .int _)]) [1, 2, 3, 4, 0] rfl ?_
  refine J.loop (head := 3) 14 (fun k f' g' => f = f' ∧ filL g (fun _ => lN 0) k g') (fun k => [(0, .ref (a 0)), (1, .ref (a ia)), (2, .ref (a ib)), (3, .ref (a it)), (4, .int (nI k))]) ?_ ?_ 14 0 _ _ rfl ⟨rfl, filL.zero⟩
  · intro f' g' hI
    obtain ⟨rfl, hI⟩ := hI
    refine J.iload C dX0_montgomery_3 4 rfl ?_
    refine J.aload_n C dX0_montgomery_5 rfl 0 rfl ?_
    refine J.get0 C 4 (by decide) q46 dX0_montgomery_6 ?_
    refine J.lalen C dX0_montgomery_9 ?_
    refine J.ncmp_ge (tgt := 27) C dX0_montgomery_10 (by decide) (by omega) (by omega) (fun h => ?_) (fun h => ?_)
    · have hS0 : Rl g' 0 := fun k hk => by rw [hI.1 k hk, dgt_0]
      refine J.iconst (v := nI 0) C dX0_montgomery_27 (by decide) ?_
      refine J.istore (lv' := [(4, .int _), (0, .ref _), (1, .ref _), (2, .ref _), (3, .ref _)]) C dX0_montgomery_28 (by decide) rfl ?_
      refine J.perm (lv' := [(0, .ref _), (1, .ref _), (2, .ref _), (3, .ref _), (4, .int _)]) [1, 2, 3, 4, 0] rfl ?_
      refine J.loop (head := 30) 12 (fun i f' g' => f = f' ∧ ∃ S, Rl g' S ∧ S < B + PP ∧ (S * 4294967296 ^ i) % PP = (A % 4294967296 ^ i * B) % PP) (fun i => [(0, .ref (a 0)), (1, .ref (a ia)), (2, .ref (a ib)), (3, .ref (a it)), (4, .int (nI i))]) ?_ ?_ 12 0 _ _ rfl ⟨rfl, 0, hS0, by have := P12; show 0 < B + PP; exact Nat.lt_of_lt_of_le (by decide : 0 < PP) (Nat.le_add_left _ _), by rw [Nat.pow_zero, Nat.mod_one, Nat.zero_mul, Nat.zero_mul]⟩
      · intro f1 g1 hI
        obtain ⟨rfl, S, hS, lS, eS⟩ := hI
        refine J.iload C dX0_montgomery_30 4 rfl ?_
        refine J.bipush (v := nI 12) C dX0_montgomery_32 (by decide) ?_
        refine J.ncmp_ge (tgt := 111) C dX0_montgomery_34 (by decide) (by omega) (by omega) (fun h => ?_) (fun h => ?_)
        · rw [Nat.mod_eq_of_lt lA] at eS
          have lS2 : S < 2 * PP := by omega
          have hT := dgt_top lS2
          refine J.aload_n C dX0_montgomery_111 rfl 0 rfl ?_
          refine J.get0 C 4 (by decide) q46 dX0_montgomery_112 ?_
          refine J.bipush (v := nI 12) C dX0_montgomery_115 (by decide) ?_
          refine J.lald C (by omega) dX0_montgomery_117 ?_
          refine J.eql (hS 12 (by decide)) ?_
          refine J.lconst (v := lN 0) C dX0_montgomery_118 rfl ?_
          refine J.lcmp C dX0_montgomery_119 ?_
          refine J.eqi (w_cmp_lt (by have := dgt_lt okb32 S 12; omega) (by decide)) ?_
          refine J.if_eq (tgt := 127) C dX0_montgomery_120 (by decide) (fun c => ?_) (fun c => ?_)
          · refine J.iconst (v := nI 0) C dX0_montgomery_127 (by decide) ?_
            refine J.perm (lv' := [(0, .ref _), (1, .ref _), (2, .ref _), (3, .ref _)]) [0, 1, 2, 3] rfl ?_
            refine tail g1 S _ hS lS2 eS (tf_f (fun q => ?_)).symm
            have h5 : 1 ≤ S / 4294967296 ^ 12 := (Nat.le_div_iff_mul_le (by decide)).mpr (by omega)
            rw [if_neg (Nat.not_lt_zero _), if_neg (by omega)] at c
            exact absurd c (by decide)
          · refine J.iconst (v := nI 1) C dX0_montgomery_123 (by decide) ?_
            refine J.goto (tgt := 128) C dX0_montgomery_124 (by decide) ?_
            refine J.perm (lv' := [(0, .ref _), (1, .ref _), (2, .ref _), (3, .ref _)]) [0, 1, 2, 3] rfl ?_
            refine tail g1 S _ hS lS2 eS (tf_t (Classical.byContradiction fun q => c ?_)).symm
            rw [hT, Nat.div_eq_of_lt (by omega)]
            rfl
        · exact absurd h (by omega)
      · intro i f1 g1 hki hI ihi
        obtain ⟨rfl, S, hS, lS, eS⟩ := hI
        refine J.iload C dX0_montgomery_30 4 rfl ?_
        refine J.bipush (v := nI 12) C dX0_montgomery_32 (by decide) ?_
        refine J.ncmp_ge (tgt := 111) C dX0_montgomery_34 (by decide) (by omega) (by omega) (fun h => ?_) (fun h => ?_)
        · exact absurd h (by omega)
        · have hm := mg_lt lS lB (dgt_lt okb32 A i) (dgt_lt okb32 (S + dgt 4294967296 A i * B) 0)
          refine J.aload_n C dX0_montgomery_37 rfl 0 rfl ?_
          refine J.aload_n C dX0_montgomery_38 rfl 1 rfl ?_
          refine J.iload C dX0_montgomery_39 4 rfl ?_
          refine J.iald C k_ia (by rw [n_ia]; omega) dX0_montgomery_41 ?_
          refine J.eqi (hA i hki) ?_
          refine J.i2l C dX0_montgomery_42 ?_
          refine J.ldc2 C q35 dX0_montgomery_43 ?_
          refine J.land C dX0_montgomery_46 ?_
          refine J.eql (w_i2l (dgt_lt32 okb32 _ _)) ?_
          refine J.aload_n C dX0_montgomery_47 rfl 2 rfl ?_
          refine J.callV (rest := []) C (x_addProduct k_ib n_ib hB (Nat.lt_trans lB P12) hS (dgt_lt okb32 A i) hm.1) _ rfl q122 q124 qs5 q18 q125 (by show _ = _ ∧ _ ≠ _ ∧ _ ≠ _ ∧ _ = some 2; decide +kernel) ⟨by decide, by decide⟩ rfl (by decide) dX0_montgomery_48 (fun v f2 g2 hR => ?_)
          obtain ⟨rfl, e_, h1⟩ := hR
          obtain rfl := e_.symm
          refine J.eqs (st' := []) rfl ?_
          refine J.aload_n C dX0_montgomery_51 rfl 0 rfl ?_
          refine J.aload_n C dX0_montgomery_52 rfl 0 rfl ?_
          refine J.get0 C 4 (by decide) q46 dX0_montgomery_53 ?_
          refine J.iconst (v := nI 0) C dX0_montgomery_56 (by decide) ?_
          refine J.lald C (by omega) dX0_montgomery_57 ?_
          refine J.eql (h1 0 (by decide)) ?_
          refine J.aload_n C dX0_montgomery_58 rfl 0 rfl ?_
          refine J.get0 C 2 (by decide) q44 dX0_montgomery_59 ?_
          refine J.callV (rest := []) C (x_addProduct (gk (by decide)) rfl hp P12 h1 (dgt_lt okb32 _ 0) hm.2.1) _ rfl q122 q124 qs5 q18 q125 (by show _ = _ ∧ _ ≠ _ ∧ _ ≠ _ ∧ _ = some 2; decide +kernel) ⟨by decide, by decide⟩ rfl (by decide) dX0_montgomery_62 (fun v f2 g2 hR => ?_)
          obtain ⟨rfl, e_, h2⟩ := hR
          obtain rfl := e_.symm
          refine J.eqs (st' := []) rfl ?_
          generalize hm0 : dgt 4294967296 (S + dgt 4294967296 A i * B) 0 = m0 at *
          refine J.iconst (v := nI 0) C dX0_montgomery_65 (by decide) ?_
          refine J.istore (lv' := [(5, .int _), (0, .ref _), (1, .ref _), (2, .ref _), (3, .ref _), (4, .int _)]) C dX0_montgomery_66 (by decide) rfl ?_
          refine J.perm (lv' := [(0, .ref _), (1, .ref _), (2, .ref _), (3, .ref _), (4, .int _), (5, .int _)]) [1, 2, 3, 4, 5, 0] rfl ?_
          refine J.loop (head := 68) 13 (fun j f' g' => f = f' ∧ filL g2 (fun j => g2 (j + 1)) j g') (fun j => [(0, .ref (a 0)), (1, .ref (a ia)), (2, .ref (a ib)), (3, .ref (a it)), (4, .int (nI i)), (5, .int (nI j))]) ?_ ?_ 13 0 _ _ rfl ⟨rfl, filL.zero⟩
          · intro f3 g3 hI
            obtain ⟨rfl, hI⟩ := hI
            refine J.iload C dX0_montgomery_68 5 rfl ?_
            refine J.bipush (v := nI 12) C dX0_montgomery_70 (by decide) ?_
            refine J.ncmp_gt (tgt := 97) C dX0_montgomery_72 (by decide) (by omega) (by omega) (fun h => ?_) (fun h => ?_)
            · refine J.aload_n C dX0_montgomery_97 rfl 0 rfl ?_
              refine J.get0 C 4 (by decide) q46 dX0_montgomery_98 ?_
              refine J.bipush (v := nI 13) C dX0_montgomery_101 (by decide) ?_
              refine J.lconst (v := lN 0) C dX0_montgomery_103 rfl ?_
              refine J.last C (by omega) dX0_montgomery_104 ?_
              refine J.inc (lv' := [(4, .int _), (0, .ref _), (1, .ref _), (2, .ref _), (3, .ref _), (5, .int _)]) C dX0_montgomery_105 4 rfl (by decide) rfl ?_
              refine J.goto (tgt := 30) C dX0_montgomery_108 (by decide) ?_
              refine J.perm (lv' := [(0, .ref _), (1, .ref _), (2, .ref _), (3, .ref _), (4, .int _)]) [1, 2, 3, 4, 0] rfl ?_
              refine ihi _ _ ⟨rfl, (S + dgt 4294967296 A i * B + m0 * PP) / 4294967296, fun k hk => ?_, hm.2.2, mg_eq eS (by rw [← hm0]; exact mg_0)⟩
              rw [mg_dgt]
              by_cases e13 : k = 13
              · subst e13
                rw [pk_uLs, dgt_hi hm.2.1 (by decide) okb32]
              · rw [pk_uLn e13, hI.1 k (by omega)]
                exact h2 (k + 1) (by omega)
            · exact absurd h (by omega)
          · intro j f3 g3 hkj hI ihj
            obtain ⟨rfl, hI⟩ := hI
            refine J.iload C dX0_montgomery_68 5 rfl ?_
            refine J.bipush (v := nI 12) C dX0_montgomery_70 (by decide) ?_
            refine J.ncmp_gt (tgt := 97) C dX0_montgomery_72 (by decide) (by omega) (by omega) (fun h => ?_) (fun h => ?_)
            · exact absurd h (by omega)
            · refine J.aload_n C dX0_montgomery_75 rfl 0 rfl ?_
              refine J.get0 C 4 (by decide) q46 dX0_montgomery_76 ?_
              refine J.iload C dX0_montgomery_79 5 rfl ?_
              refine J.aload_n C dX0_montgomery_81 rfl 0 rfl ?_
              refine J.get0 C 4 (by decide) q46 dX0_montgomery_82 ?_
              refine J.iload C dX0_montgomery_85 5 rfl ?_
              refine J.iconst (v := nI 1) C dX0_montgomery_87 (by decide) ?_
              refine J.iadd C dX0_montgomery_88 ?_
              refine J.eqi (w_add j 1) ?_
              refine J.lald C (by omega) dX0_montgomery_89 ?_
              refine J.eql (hI.2 (j + 1) (Nat.le_succ j)) ?_
              refine J.last C (by omega) dX0_montgomery_90 ?_
              have hI := hI.next (x := g2 (j + 1)) rfl
              refine J.inc (lv' := [(5, .int _), (0, .ref _), (1, .ref _), (2, .ref _), (3, .ref _), (4, .int _)]) C dX0_montgomery_91 5 rfl (by decide) rfl ?_
              refine J.goto (tgt := 68) C dX0_montgomery_94 (by decide) ?_
              refine J.perm (lv' := [(0, .ref _), (1, .ref _), (2, .ref _), (3, .ref _), (4, .int _), (5, .int _)]) [1, 2, 3, 4, 5, 0] rfl ?_
              exact ihj _ _ ⟨rfl, hI⟩
    · exact absurd h (by omega)
  · intro k f' g' hk hI ih
    obtain ⟨rfl, hI⟩ := hI
    refine J.iload C dX0_montgomery_3 4 rfl ?_
    refine J.aload_n C dX0_montgomery_5 rfl 0 rfl ?_
    refine J.get0 C 4 (by decide) q46 dX0_montgomery_6 ?_
    refine J.lalen C dX0_montgomery_9 ?_
    refine J.ncmp_ge (tgt := 27) C dX0_montgomery_10 (by decide) (by omega) (by omega) (fun h => ?_) (fun h => ?_)
    · exact absurd h (by omega)
    · refine J.aload_n C dX0_montgomery_13 rfl 0 rfl ?_
      refine J.get0 C 4 (by decide) q46 dX0_montgomery_14 ?_
      refine J.iload C dX0_montgomery_17 4 rfl ?_
      refine J.lconst (v := lN 0) C dX0_montgomery_19 rfl ?_
      refine J.last C (by omega) dX0_montgomery_20 ?_
      have hI := hI.next (x := lN 0) rfl
      refine J.inc (lv' := [(4, .int _), (0, .ref _), (1, .ref _), (2, .ref _), (3, .ref _)]) C dX0_montgomery_21 4 rfl (by decide) rfl ?_
      refine J.goto (tgt := 3) C dX0_montgomery_24 (by decide) ?_
      refine J.perm (lv' := [(0, .ref _), (1, .ref _), (2, .ref _), (3, .ref _), (4, .int _)]) [1, 2, 3, 4, 0] rfl ?_
      exact ih _ _ ⟨rfl, hI⟩
end Xmo
end
section
section Xfa
/-- 2^384 -/
def RR : Nat := 4294967296 ^ 12
def VOK (V : Nat → Nat) : Prop := ∀ r, r < 4 → V r < PP
theorem VOK.up {V : Nat → Nat} (h : VOK V) {X : Nat} (hX : X < PP) (r : Nat) : VOK (va_up V r X) := fun k hk => by
  by_cases e : k = r
  · subst e; rw [va_up_self]; exact hX
  · rw [va_up_ne _ _ e]; exact h k hk
/-- what holds of a Prime384 between calls: registers V, line Ln, the prime, 2^768 modulo the prime -/
def XI (V : Nat → Nat) (Ln : Nat) (f : gF) : Prop := RG 4294967296 12 (f 1) V ∧ (Rd 4294967296 12 (f 2) Ln ∧ Ln < 4294967296 ^ 12) ∧ Rd 4294967296 12 (f 3) PP ∧ Rd 4294967296 12 (f 4) (RR * RR % PP)
theorem XI.keep {V : Nat → Nat} {Ln : Nat} {f f' : gF} (h : XI V Ln f) (e1 : f' 1 = f 1) (e2 : f' 2 = f 2) (e3 : f' 3 = f 3) (e4 : f' 4 = f 4) : XI V Ln f' := by
  unfold XI
  rw [e1, e2, e3, e4]
  exact h
theorem XI.nu {V : Nat → Nat} {Ln : Nat} {f f' : gF} {n it X : Nat} (h : XI V Ln f) (hn : nu 4294967296 n f it X f') (hit : 5 < it) : XI V Ln f' := h.keep (hn.ne (by omega)) (hn.ne (by omega)) (hn.ne (by omega)) (hn.ne (by omega))
theorem XI.fil {V : Nat → Nat} {Ln : Nat} {f f' : gF} {it o k : Nat} {v : Nat → Int32} (h : XI V Ln f) (hn : fil f it o v k f') (hit : 5 < it) : XI V Ln f' := h.keep (hn.other (by omega)) (hn.other (by omega)) (hn.other (by omega)) (hn.other (by omega))
theorem XI.put {V V' : Nat → Nat} {Ln : Nat} {f f' : gF} (h : XI V Ln f) (e : ∃ F, f' = va_up f 1 F) (hR : RG 4294967296 12 (f' 1) V') : XI V' Ln f' := by
  obtain ⟨F, rfl⟩ := e
  refine ⟨hR, ?_⟩
  rw [va_up_ne _ _ (by decide), va_up_ne _ _ (by decide), va_up_ne _ _ (by decide)]
  exact h.2
theorem nu.keep {b n m : Nat} {f f' : gF} {it V j W : Nat} (h : nu b n f it V f') (hr : Rd b m (f j) W) (e : j ≠ it) : Rd b m (f' j) W := by
  rw [h.ne e]
  exact hr
/-- cancelling -/
theorem md_cancel {N c x y : Nat} (hc : Nat.Coprime N c) (h : (x * c) % N = (y * c) % N) : x % N = y % N := by
  have key : ∀ {x y : Nat}, y ≤ x → (x * c) % N = (y * c) % N → x % N = y % N := by
    intro x y hle h
    have h1 := Nat.dvd_of_mod_eq_zero (Nat.sub_mod_eq_zero_of_mod_eq h)
    rw [← Nat.sub_mul] at h1
    obtain ⟨k, hk⟩ := hc.dvd_of_dvd_mul_right h1
    have e : x = y + N * k := by omega
    rw [e, Nat.add_mul_mod_self_left]
  rcases Nat.le_total y x with q | q
  · exact key q h
  · exact (key q h.symm).symm
theorem md_mul {N x y : Nat} (c : Nat) (h : x % N = y % N) : (x * c) % N = (y * c) % N := by rw [Nat.mul_mod, h, ← Nat.mul_mod]
theorem RR_cop : Nat.Coprime PP RR := by
  show Nat.gcd PP RR = 1
  decide +kernel
theorem PP_pos : 0 < PP := by decide
/-- out of Montgomery's form -/
theorem mo_cancel {T x : Nat} (lT : T < PP) (h : (T * RR) % PP = (x * RR) % PP) : T = x % PP := by
  have := md_cancel RR_cop h
  rwa [Nat.mod_eq_of_lt lT] at this
/-- into Montgomery's form: a product with 2^768 -/
theorem mo_in {T x : Nat} (lT : T < PP) (h : (T * RR) % PP = (x * (RR * RR % PP)) % PP) : T = (x * RR) % PP := by
  refine mo_cancel lT ?_
  rw [h, Nat.mul_mod, Nat.mod_mod, ← Nat.mul_mod, Nat.mul_assoc]
theorem mo_mul {T T2 x y : Nat} (lT2 : T2 < PP) (h1 : (T * RR) % PP = (x * y) % PP) (h2 : (T2 * RR) % PP = (T * (RR * RR % PP)) % PP) : T2 = (x * y) % PP := by
  rw [mo_in lT2 h2, h1]
/-- x squared j times -/
def sqs (x : Nat) : Nat → Nat
  | 0 => x
  | j + 1 => (sqs x j * sqs x j) % PP
theorem mo_sq {T T2 X : Nat} (lT2 : T2 < PP) (hT : T = (X * RR) % PP) (h : (T2 * RR) % PP = (T * T) % PP) : T2 = (X * X % PP * RR) % PP := by
  have e : (T * T) % PP = (X * X * RR * RR) % PP := by
    rw [hT, ← Nat.mul_mod, Nat.mul_mul_mul_comm, ← Nat.mul_assoc]
  rw [mo_cancel lT2 (h.trans e), Nat.mul_mod (X * X % PP), Nat.mod_mod, ← Nat.mul_mod]
theorem mo_out {T T2 X : Nat} (lT2 : T2 < PP) (hT : T = (X * RR) % PP) (h : (T2 * RR) % PP = (T * 1) % PP) : T2 = X % PP := by
  refine mo_cancel lT2 ?_
  rw [h, Nat.mul_one, hT, Nat.mod_mod]
/-- a number out of its digits -/
def num (b : Nat) (w : Nat → Nat) : Nat → Nat
  | 0 => 0
  | n + 1 => num b w n + b ^ n * w n
theorem num_lt {b : Nat} (hb : okb b) {w : Nat → Nat} (hw : ∀ k, w k < b) : ∀ n, num b w n < b ^ n := by
  intro n
  induction n with
  | zero => simp [num]
  | succ n ih =>
    show num b w n + b ^ n * w n < b ^ (n + 1)
    have : b ^ n * (w n + 1) ≤ b ^ n * b := Nat.mul_le_mul_left _ (hw n)
    rw [Nat.pow_succ]
    rw [Nat.mul_add, Nat.mul_one] at this
    omega
theorem dgt_num {b : Nat} (hb : okb b) {w : Nat → Nat} (hw : ∀ k, w k < b) : ∀ n k, k < n → dgt b (num b w n) k = w k := by
  intro n
  induction n with
  | zero => intro k hk; omega
  | succ n ih =>
    intro k hk
    have hl := num_lt hb hw n
    by_cases e : k = n
    · subst e
      show (num b w k + b ^ k * w k) / b ^ k % b = w k
      rw [Nat.add_mul_div_left _ _ (pow_pos' hb k), Nat.div_eq_of_lt hl, Nat.zero_add, Nat.mod_eq_of_lt (hw k)]
    · have h1 := ih k (by omega)
      rw [← dgt_mod hb (show k < n by omega)]
      have e2 : num b w (n + 1) % b ^ n = num b w n := by
        show (num b w n + b ^ n * w n) % b ^ n = _
        rw [Nat.add_mul_mod_self_left, Nat.mod_eq_of_lt hl]
      rw [e2, h1]
/-- an int as a number -/
def un (x : Int32) : Nat := x.toBitVec.toNat
theorem un_lt (x : Int32) : un x < 4294967296 := x.toBitVec.isLt
theorem nI_un (x : Int32) : nI (un x) = x := w_nn
/-- the line with four new words -/
def lnU (Ln : Nat) (part a b c d : Int32) : Nat := num 4294967296 (fun k => if k = 4 * (un part % 2147483648 % 3) then un a else if k = 4 * (un part % 2147483648 % 3) + 1 then un b else if k = 4 * (un part % 2147483648 % 3) + 2 then un c else if k = 4 * (un part % 2147483648 % 3) + 3 then un d else dgt 4294967296 Ln k) 12
theorem lnU_w (Ln : Nat) (part a b c d : Int32) : ∀ k, (fun k => if k = 4 * (un part % 2147483648 % 3) then un a else if k = 4 * (un part % 2147483648 % 3) + 1 then un b else if k = 4 * (un part % 2147483648 % 3) + 2 then un c else if k = 4 * (un part % 2147483648 % 3) + 3 then un d else dgt 4294967296 Ln k) k < 4294967296 := by
  intro k
  dsimp only
  split
  · exact un_lt _
  · split
    · exact un_lt _
    · split
      · exact un_lt _
      · split
        · exact un_lt _
        · exact dgt_lt okb32 _ _
theorem lnU_lt (Ln : Nat) (part a b c d : Int32) : lnU Ln part a b c d < 4294967296 ^ 12 := num_lt okb32 (lnU_w Ln part a b c d) 12
theorem lnU_dgt (Ln : Nat) (part a b c d : Int32) (k : Nat) (hk : k < 12) : dgt 4294967296 (lnU Ln part a b c d) k = if k = 4 * (un part % 2147483648 % 3) then un a else if k = 4 * (un part % 2147483648 % 3) + 1 then un b else if k = 4 * (un part % 2147483648 % 3) + 2 then un c else if k = 4 * (un part % 2147483648 % 3) + 3 then un d else dgt 4294967296 Ln k := dgt_num okb32 (lnU_w Ln part a b c d) 12 k hk
set_option maxHeartbeats 4000000 in
set_option maxRecDepth 100000 in
theorem x_add {l : Launch} {D : va_G} {d dL : ClassId} {a : Nat → Nat} {f : gF} {g : gG} {V : Nat → Nat} {Ln : Nat} {r p q : Int32} (hI : XI V Ln f) (hV : VOK V) : gMet l yX0_add cX0_add 4 none 2 51 D d dL 0 a [.ref (a 0), .int r, .int p, .int q] f g (fun v f' g' => v = none ∧ XI (va_up V (rg r) ((V (rg p) + V (rg q)) % PP)) Ln f') := by
  refine gMet.of (by decide) (Nat.le_of_ble_eq_true rfl) (fun z C => ?_)
  show J z f g 0 [(0, .ref (a 0)), (1, .int r), (2, .int p), (3, .int q)] []
  refine J.aload_n C dX0_add_0 rfl 0 rfl ?_
  refine J.iload_n C dX0_add_1 rfl 2 rfl ?_
  refine J.aload_n C dX0_add_2 rfl 0 rfl ?_
  refine J.get0 C 5 (by decide) q47 dX0_add_3 ?_
  refine J.callV (rest := []) C (x_get (gk (by decide)) rfl hI.1) _ rfl q102 q104 qs2 q18 q105 (by show _ = _ ∧ _ ≠ _ ∧ _ ≠ _ ∧ _ = some 2; decide +kernel) ⟨by decide, by decide⟩ rfl (by decide) dX0_add_6 (fun v f1 g1 hR => ?_)
  obtain ⟨rfl, -, h1⟩ := hR
  refine J.eqs (st' := []) rfl ?_
  have hI1 := hI.nu h1 (by decide)
  refine J.aload_n C dX0_add_9 rfl 0 rfl ?_
  refine J.iload_n C dX0_add_10 rfl 3 rfl ?_
  refine J.aload_n C dX0_add_11 rfl 0 rfl ?_
  refine J.get0 C 6 (by decide) q48 dX0_add_12 ?_
  refine J.callV (rest := []) C (x_get (gk (by decide)) rfl hI1.1) _ rfl q102 q104 qs2 q18 q105 (by show _ = _ ∧ _ ≠ _ ∧ _ ≠ _ ∧ _ = some 2; decide +kernel) ⟨by decide, by decide⟩ rfl (by decide) dX0_add_15 (fun v f2 g2 hR => ?_)
  obtain ⟨rfl, -, h2⟩ := hR
  refine J.eqs (st' := []) rfl ?_
  have hI2 := hI1.nu h2 (by decide)
  have hA := h2.keep h1.2 (by decide)
  refine J.aload_n C dX0_add_18 rfl 0 rfl ?_
  refine J.aload_n C dX0_add_19 rfl 0 rfl ?_
  refine J.get0 C 5 (by decide) q47 dX0_add_20 ?_
  refine J.aload_n C dX0_add_23 rfl 0 rfl ?_
  refine J.get0 C 6 (by decide) q48 dX0_add_24 ?_
  refine J.aload_n C dX0_add_27 rfl 0 rfl ?_
  refine J.get0 C 7 (by decide) q49 dX0_add_28 ?_
  refine J.callV (rest := []) C (x_sumOf (gk (by decide)) rfl (gk (by decide)) rfl (gk (by decide)) rfl (by decide) hI2.2.2.1 hA h2.2 (hV _ (rg_lt p)) (hV _ (rg_lt q))) _ rfl q28 q30 qs0 q18 q31 (by show _ = _ ∧ _ ≠ _ ∧ _ ≠ _ ∧ _ = some 3; decide +kernel) ⟨by decide, by decide⟩ rfl (by decide) dX0_add_31 (fun v f3 g3 hR => ?_)
  obtain ⟨rfl, -, h3⟩ := hR
  refine J.eqs (st' := []) rfl ?_
  have hI3 := hI2.nu h3 (by decide)
  refine J.aload_n C dX0_add_34 rfl 0 rfl ?_
  refine J.iload_n C dX0_add_35 rfl 1 rfl ?_
  refine J.aload_n C dX0_add_36 rfl 0 rfl ?_
  refine J.get0 C 7 (by decide) q49 dX0_add_37 ?_
  refine J.callV (rest := []) C (x_put (gk (by decide)) rfl hI3.1 h3.2) _ rfl q90 q92 qs1 q18 q93 (by show _ = _ ∧ _ ≠ _ ∧ _ ≠ _ ∧ _ = some 2; decide +kernel) ⟨by decide, by decide⟩ rfl (by decide) dX0_add_40 (fun v f4 g4 hR => ?_)
  obtain ⟨rfl, -, e4, h4⟩ := hR
  refine J.eqs (st' := []) rfl ?_
  exact J.vret C dX0_add_43 ⟨rfl, hI3.put e4 h4⟩
set_option maxHeartbeats 4000000 in
set_option maxRecDepth 100000 in
theorem x_subtract {l : Launch} {D : va_G} {d dL : ClassId} {a : Nat → Nat} {f : gF} {g : gG} {V : Nat → Nat} {Ln : Nat} {r p q : Int32} (hI : XI V Ln f) (hV : VOK V) : gMet l yX0_subtract cX0_subtract 4 none 2 51 D d dL 0 a [.ref (a 0), .int r, .int p, .int q] f g (fun v f' g' => v = none ∧ XI (va_up V (rg r) ((V (rg p) + PP - V (rg q)) % PP)) Ln f') := by
  refine gMet.of (by decide) (Nat.le_of_ble_eq_true rfl) (fun z C => ?_)
  show J z f g 0 [(0, .ref (a 0)), (1, .int r), (2, .int p), (3, .int q)] []
  refine J.aload_n C dX0_subtract_0 rfl 0 rfl ?_
  refine J.iload_n C dX0_subtract_1 rfl 2 rfl ?_
  refine J.aload_n C dX0_subtract_2 rfl 0 rfl ?_
  refine J.get0 C 5 (by decide) q47 dX0_subtract_3 ?_
  refine J.callV (rest := []) C (x_get (gk (by decide)) rfl hI.1) _ rfl q102 q104 qs2 q18 q105 (by show _ = _ ∧ _ ≠ _ ∧ _ ≠ _ ∧ _ = some 2; decide +kernel) ⟨by decide, by decide⟩ rfl (by decide) dX0_subtract_6 (fun v f1 g1 hR => ?_)
  obtain ⟨rfl, -, h1⟩ := hR
  refine J.eqs (st' := []) rfl ?_
  have hI1 := hI.nu h1 (by decide)
  refine J.aload_n C dX0_subtract_9 rfl 0 rfl ?_
  refine J.iload_n C dX0_subtract_10 rfl 3 rfl ?_
  refine J.aload_n C dX0_subtract_11 rfl 0 rfl ?_
  refine J.get0 C 6 (by decide) q48 dX0_subtract_12 ?_
  refine J.callV (rest := []) C (x_get (gk (by decide)) rfl hI1.1) _ rfl q102 q104 qs2 q18 q105 (by show _ = _ ∧ _ ≠ _ ∧ _ ≠ _ ∧ _ = some 2; decide +kernel) ⟨by decide, by decide⟩ rfl (by decide) dX0_subtract_15 (fun v f2 g2 hR => ?_)
  obtain ⟨rfl, -, h2⟩ := hR
  refine J.eqs (st' := []) rfl ?_
  have hI2 := hI1.nu h2 (by decide)
  have hA := h2.keep h1.2 (by decide)
  refine J.aload_n C dX0_subtract_18 rfl 0 rfl ?_
  refine J.aload_n C dX0_subtract_19 rfl 0 rfl ?_
  refine J.get0 C 5 (by decide) q47 dX0_subtract_20 ?_
  refine J.aload_n C dX0_subtract_23 rfl 0 rfl ?_
  refine J.get0 C 6 (by decide) q48 dX0_subtract_24 ?_
  refine J.aload_n C dX0_subtract_27 rfl 0 rfl ?_
  refine J.get0 C 7 (by decide) q49 dX0_subtract_28 ?_
  refine J.callV (rest := []) C (x_dif (gk (by decide)) rfl (gk (by decide)) rfl (gk (by decide)) rfl (by decide) hI2.2.2.1 hA h2.2 (hV _ (rg_lt p)) (hV _ (rg_lt q))) _ rfl q110 q112 qs3 q18 q113 (by show _ = _ ∧ _ ≠ _ ∧ _ ≠ _ ∧ _ = some 3; decide +kernel) ⟨by decide, by decide⟩ rfl (by decide) dX0_subtract_31 (fun v f3 g3 hR => ?_)
  obtain ⟨rfl, -, h3⟩ := hR
  refine J.eqs (st' := []) rfl ?_
  have hI3 := hI2.nu h3 (by decide)
  refine J.aload_n C dX0_subtract_34 rfl 0 rfl ?_
  refine J.iload_n C dX0_subtract_35 rfl 1 rfl ?_
  refine J.aload_n C dX0_subtract_36 rfl 0 rfl ?_
  refine J.get0 C 7 (by decide) q49 dX0_subtract_37 ?_
  refine J.callV (rest := []) C (x_put (gk (by decide)) rfl hI3.1 h3.2) _ rfl q90 q92 qs1 q18 q93 (by show _ = _ ∧ _ ≠ _ ∧ _ ≠ _ ∧ _ = some 2; decide +kernel) ⟨by decide, by decide⟩ rfl (by decide) dX0_subtract_40 (fun v f4 g4 hR => ?_)
  obtain ⟨rfl, -, e4, h4⟩ := hR
  refine J.eqs (st' := []) rfl ?_
  exact J.vret C dX0_subtract_43 ⟨rfl, hI3.put e4 h4⟩
set_option maxHeartbeats 4000000 in
set_option maxRecDepth 100000 in
theorem x_multiply {l : Launch} {D : va_G} {d dL : ClassId} {a : Nat → Nat} {f : gF} {g : gG} {V : Nat → Nat} {Ln : Nat} {r p q : Int32} (hI : XI V Ln f) (hV : VOK V) : gMet l yX0_multiply cX0_multiply 4 none 2 51 D d dL 0 a [.ref (a 0), .int r, .int p, .int q] f g (fun v f' g' => v = none ∧ XI (va_up V (rg r) ((V (rg p) * V (rg q)) % PP)) Ln f') := by
  refine gMet.of (by decide) (Nat.le_of_ble_eq_true rfl) (fun z C => ?_)
  show J z f g 0 [(0, .ref (a 0)), (1, .int r), (2, .int p), (3, .int q)] []
  refine J.aload_n C dX0_multiply_0 rfl 0 rfl ?_
  refine J.iload_n C dX0_multiply_1 rfl 2 rfl ?_
  refine J.aload_n C dX0_multiply_2 rfl 0 rfl ?_
  refine J.get0 C 5 (by decide) q47 dX0_multiply_3 ?_
  refine J.callV (rest := []) C (x_get (gk (by decide)) rfl hI.1) _ rfl q102 q104 qs2 q18 q105 (by show _ = _ ∧ _ ≠ _ ∧ _ ≠ _ ∧ _ = some 2; decide +kernel) ⟨by decide, by decide⟩ rfl (by decide) dX0_multiply_6 (fun v f1 g1 hR => ?_)
  obtain ⟨rfl, -, h1⟩ := hR
  refine J.eqs (st' := []) rfl ?_
  have hI1 := hI.nu h1 (by decide)
  refine J.aload_n C dX0_multiply_9 rfl 0 rfl ?_
  refine J.iload_n C dX0_multiply_10 rfl 3 rfl ?_
  refine J.aload_n C dX0_multiply_11 rfl 0 rfl ?_
  refine J.get0 C 6 (by decide) q48 dX0_multiply_12 ?_
  refine J.callV (rest := []) C (x_get (gk (by decide)) rfl hI1.1) _ rfl q102 q104 qs2 q18 q105 (by show _ = _ ∧ _ ≠ _ ∧ _ ≠ _ ∧ _ = some 2; decide +kernel) ⟨by decide, by decide⟩ rfl (by decide) dX0_multiply_15 (fun v f2 g2 hR => ?_)
  obtain ⟨rfl, -, h2⟩ := hR
  refine J.eqs (st' := []) rfl ?_
  have hI2 := hI1.nu h2 (by decide)
  have hA := h2.keep h1.2 (by decide)
  refine J.aload_n C dX0_multiply_18 rfl 0 rfl ?_
  refine J.aload_n C dX0_multiply_19 rfl 0 rfl ?_
  refine J.get0 C 5 (by decide) q47 dX0_multiply_20 ?_
  refine J.aload_n C dX0_multiply_23 rfl 0 rfl ?_
  refine J.get0 C 6 (by decide) q48 dX0_multiply_24 ?_
  refine J.aload_n C dX0_multiply_27 rfl 0 rfl ?_
  refine J.get0 C 7 (by decide) q49 dX0_multiply_28 ?_
  refine J.callV (rest := []) C (x_mont (gk (by decide)) rfl (gk (by decide)) rfl (gk (by decide)) rfl (by decide) hI2.2.2.1 hA h2.2 (Nat.lt_trans (hV _ (rg_lt p)) P12) (hV _ (rg_lt q))) _ rfl q118 q120 qs4 q18 q121 (by show _ = _ ∧ _ ≠ _ ∧ _ ≠ _ ∧ _ = some 3; decide +kernel) ⟨by decide, by decide⟩ rfl (by decide) dX0_multiply_31 (fun v f3 g3 hR => ?_)
  obtain ⟨rfl, T, lT, eT, h3⟩ := hR
  refine J.eqs (st' := []) rfl ?_
  have hI3 := hI2.nu h3 (by decide)
  refine J.aload_n C dX0_multiply_34 rfl 0 rfl ?_
  refine J.aload_n C dX0_multiply_35 rfl 0 rfl ?_
  refine J.get0 C 7 (by decide) q49 dX0_multiply_36 ?_
  refine J.aload_n C dX0_multiply_39 rfl 0 rfl ?_
  refine J.get0 C 3 (by decide) q45 dX0_multiply_40 ?_
  refine J.aload_n C dX0_multiply_43 rfl 0 rfl ?_
  refine J.get0 C 5 (by decide) q47 dX0_multiply_44 ?_
  refine J.callV (rest := []) C (x_mont (gk (by decide)) rfl (gk (by decide)) rfl (gk (by decide)) rfl (by decide) hI3.2.2.1 h3.2 hI3.2.2.2 (Nat.lt_trans lT P12) (Nat.mod_lt _ PP_pos)) _ rfl q118 q120 qs4 q18 q121 (by show _ = _ ∧ _ ≠ _ ∧ _ ≠ _ ∧ _ = some 3; decide +kernel) ⟨by decide, by decide⟩ rfl (by decide) dX0_multiply_47 (fun v f4 g4 hR => ?_)
  obtain ⟨rfl, T2, lT2, eT2, h4⟩ := hR
  refine J.eqs (st' := []) rfl ?_
  have hI4 := hI3.nu h4 (by decide)
  have h4 := h4.val (mo_mul lT2 eT eT2)
  refine J.aload_n C dX0_multiply_50 rfl 0 rfl ?_
  refine J.iload_n C dX0_multiply_51 rfl 1 rfl ?_
  refine J.aload_n C dX0_multiply_52 rfl 0 rfl ?_
  refine J.get0 C 5 (by decide) q47 dX0_multiply_53 ?_
  refine J.callV (rest := []) C (x_put (gk (by decide)) rfl hI4.1 h4.2) _ rfl q90 q92 qs1 q18 q93 (by show _ = _ ∧ _ ≠ _ ∧ _ ≠ _ ∧ _ = some 2; decide +kernel) ⟨by decide, by decide⟩ rfl (by decide) dX0_multiply_56 (fun v f5 g5 hR => ?_)
  obtain ⟨rfl, -, e5, h5⟩ := hR
  refine J.eqs (st' := []) rfl ?_
  exact J.vret C dX0_multiply_59 ⟨rfl, hI4.put e5 h5⟩
set_option maxHeartbeats 4000000 in
set_option maxRecDepth 100000 in
theorem x_square {l : Launch} {D : va_G} {d dL : ClassId} {a : Nat → Nat} {f : gF} {g : gG} {V : Nat → Nat} {Ln : Nat} {r p : Int32} (hI : XI V Ln f) (hV : VOK V) : gMet l yX0_square cX0_square 3 none 3 74 D d dL 0 a [.ref (a 0), .int r, .int p] f g (fun v f' g' => v = none ∧ XI (va_up V (rg r) ((V (rg p) * V (rg p)) % PP)) Ln f') := by
  refine gMet.of (by decide) (Nat.le_of_ble_eq_true rfl) (fun z C => ?_)
  show J z f g 0 [(0, .ref (a 0)), (1, .int r), (2, .int p)] []
  refine J.aload_n C dX0_square_0 rfl 0 rfl ?_
  refine J.iload_n C dX0_square_1 rfl 1 rfl ?_
  refine J.iload_n C dX0_square_2 rfl 2 rfl ?_
  refine J.iload_n C dX0_square_3 rfl 2 rfl ?_
  refine J.callV (rest := []) C (x_multiply (r := r) (p := p) (q := p) hI hV) _ rfl q130 q115 q116 q18 q117 (by show _ = _ ∧ _ ≠ _ ∧ _ ≠ _ ∧ _ = some 3; decide +kernel) ⟨by decide, by decide⟩ rfl (by decide) dX0_square_4 (fun v f1 g1 hR => ?_)
  obtain ⟨rfl, h1⟩ := hR
  refine J.eqs (st' := []) rfl ?_
  exact J.vret C dX0_square_7 ⟨rfl, h1⟩
set_option maxHeartbeats 4000000 in
set_option maxRecDepth 100000 in
theorem x_twice {l : Launch} {D : va_G} {d dL : ClassId} {a : Nat → Nat} {f : gF} {g : gG} {V : Nat → Nat} {Ln : Nat} {r p : Int32} (hI : XI V Ln f) (hV : VOK V) : gMet l yX0_twice cX0_twice 3 none 3 74 D d dL 0 a [.ref (a 0), .int r, .int p] f g (fun v f' g' => v = none ∧ XI (va_up V (rg r) ((V (rg p) + V (rg p)) % PP)) Ln f') := by
  refine gMet.of (by decide) (Nat.le_of_ble_eq_true rfl) (fun z C => ?_)
  show J z f g 0 [(0, .ref (a 0)), (1, .int r), (2, .int p)] []
  refine J.aload_n C dX0_twice_0 rfl 0 rfl ?_
  refine J.iload_n C dX0_twice_1 rfl 1 rfl ?_
  refine J.iload_n C dX0_twice_2 rfl 2 rfl ?_
  refine J.iload_n C dX0_twice_3 rfl 2 rfl ?_
  refine J.callV (rest := []) C (x_add (r := r) (p := p) (q := p) hI hV) _ rfl q139 q99 q100 q18 q101 (by show _ = _ ∧ _ ≠ _ ∧ _ ≠ _ ∧ _ = some 3; decide +kernel) ⟨by decide, by decide⟩ rfl (by decide) dX0_twice_4 (fun v f1 g1 hR => ?_)
  obtain ⟨rfl, h1⟩ := hR
  refine J.eqs (st' := []) rfl ?_
  exact J.vret C dX0_twice_7 ⟨rfl, h1⟩
set_option maxHeartbeats 4000000 in
set_option maxRecDepth 100000 in
theorem x_halve {l : Launch} {D : va_G} {d dL : ClassId} {a : Nat → Nat} {f : gF} {g : gG} {V : Nat → Nat} {Ln : Nat} {r p : Int32} (hI : XI V Ln f) (hV : VOK V) : gMet l yX0_halve cX0_halve 3 none 2 51 D d dL 0 a [.ref (a 0), .int r, .int p] f g (fun v f' g' => v = none ∧ XI (va_up V (rg r) (hf (V (rg p)))) Ln f') := by
  refine gMet.of (by decide) (Nat.le_of_ble_eq_true rfl) (fun z C => ?_)
  show J z f g 0 [(0, .ref (a 0)), (1, .int r), (2, .int p)] []
  refine J.aload_n C dX0_halve_0 rfl 0 rfl ?_
  refine J.iload_n C dX0_halve_1 rfl 2 rfl ?_
  refine J.aload_n C dX0_halve_2 rfl 0 rfl ?_
  refine J.get0 C 7 (by decide) q49 dX0_halve_3 ?_
  refine J.callV (rest := []) C (x_get (gk (by decide)) rfl hI.1) _ rfl q102 q104 qs2 q18 q105 (by show _ = _ ∧ _ ≠ _ ∧ _ ≠ _ ∧ _ = some 2; decide +kernel) ⟨by decide, by decide⟩ rfl (by decide) dX0_halve_6 (fun v f1 g1 hR => ?_)
  obtain ⟨rfl, -, h1⟩ := hR
  refine J.eqs (st' := []) rfl ?_
  have hI1 := hI.nu h1 (by decide)
  refine J.aload_n C dX0_halve_9 rfl 0 rfl ?_
  refine J.aload_n C dX0_halve_10 rfl 0 rfl ?_
  refine J.get0 C 7 (by decide) q49 dX0_halve_11 ?_
  refine J.callV (rest := []) C (x_half (gk (by decide)) rfl (by decide) hI1.2.2.1 h1.2 (hV _ (rg_lt p))) _ rfl q144 q146 qs6 q18 q147 (by show _ = _ ∧ _ ≠ _ ∧ _ ≠ _ ∧ _ = some 1; decide +kernel) ⟨by decide, by decide⟩ rfl (by decide) dX0_halve_14 (fun v f2 g2 hR => ?_)
  obtain ⟨rfl, -, h2⟩ := hR
  refine J.eqs (st' := []) rfl ?_
  have hI2 := hI1.nu h2 (by decide)
  refine J.aload_n C dX0_halve_17 rfl 0 rfl ?_
  refine J.iload_n C dX0_halve_18 rfl 1 rfl ?_
  refine J.aload_n C dX0_halve_19 rfl 0 rfl ?_
  refine J.get0 C 7 (by decide) q49 dX0_halve_20 ?_
  refine J.callV (rest := []) C (x_put (gk (by decide)) rfl hI2.1 h2.2) _ rfl q90 q92 qs1 q18 q93 (by show _ = _ ∧ _ ≠ _ ∧ _ ≠ _ ∧ _ = some 2; decide +kernel) ⟨by decide, by decide⟩ rfl (by decide) dX0_halve_23 (fun v f3 g3 hR => ?_)
  obtain ⟨rfl, -, e3, h3⟩ := hR
  refine J.eqs (st' := []) rfl ?_
  exact J.vret C dX0_halve_26 ⟨rfl, hI2.put e3 h3⟩
set_option maxHeartbeats 4000000 in
set_option maxRecDepth 100000 in
theorem x_negate {l : Launch} {D : va_G} {d dL : ClassId} {a : Nat → Nat} {f : gF} {g : gG} {V : Nat → Nat} {Ln : Nat} {r p : Int32} (hI : XI V Ln f) (hV : VOK V) : gMet l yX0_negate cX0_negate 4 none 2 51 D d dL 0 a [.ref (a 0), .int r, .int p] f g (fun v f' g' => v = none ∧ XI (va_up V (rg r) ((0 + PP - V (rg p)) % PP)) Ln f') := by
  refine gMet.of (by decide) (Nat.le_of_ble_eq_true rfl) (fun z C => ?_)
  show J z f g 0 [(0, .ref (a 0)), (1, .int r), (2, .int p)] []
  refine J.aload_n C dX0_negate_0 rfl 0 rfl ?_
  refine J.iload_n C dX0_negate_1 rfl 2 rfl ?_
  refine J.aload_n C dX0_negate_2 rfl 0 rfl ?_
  refine J.get0 C 5 (by decide) q47 dX0_negate_3 ?_
  refine J.callV (rest := []) C (x_get (gk (by decide)) rfl hI.1) _ rfl q102 q104 qs2 q18 q105 (by show _ = _ ∧ _ ≠ _ ∧ _ ≠ _ ∧ _ = some 2; decide +kernel) ⟨by decide, by decide⟩ rfl (by decide) dX0_negate_6 (fun v f1 g1 hR => ?_)
  obtain ⟨rfl, -, h1⟩ := hR
  refine J.eqs (st' := []) rfl ?_
  have hI1 := hI.nu h1 (by decide)
  refine J.iconst (v := nI 0) C dX0_negate_9 (by decide) ?_
  refine J.istore_n (lv' := [(3, .int _), (0, .ref _), (1, .int _), (2, .int _)]) C dX0_negate_10 rfl (by decide) rfl ?_
  refine J.perm (lv' := [(0, .ref _), (1, .int _), (3, .int _)]) [1, 2, 0] rfl ?_
  refine J.loop (head := 11) 12 (fun k f' g' => fil f1 7 0 (fun _ => nI 0) k f') (fun k => [(0, .ref (a 0)), (1, .int r), (3, .int (nI k))]) ?_ ?_ 12 0 _ _ rfl fil.zero
  · intro f' g' hF
    obtain hF := hF
    refine J.iload_n C dX0_negate_11 rfl 2 rfl ?_
    refine J.bipush (v := nI 12) C dX0_negate_12 (by decide) ?_
    refine J.ncmp_ge (tgt := 30) C dX0_negate_14 (by decide) (by omega) (by omega) (fun h => ?_) (fun h => ?_)
    · have hI2 := hI1.fil hF (by decide)
      have h2 : Rd 4294967296 12 (f' 7) 0 := Rd.zero (fun k hk => by have := hF.at.1 k hk; rwa [Nat.zero_add] at this)
      have h1' : Rd 4294967296 12 (f' 6) (V (rg p)) := by rw [hF.other (by decide)]; exact h1.2
      refine J.aload_n C dX0_negate_30 rfl 0 rfl ?_
      refine J.aload_n C dX0_negate_31 rfl 0 rfl ?_
      refine J.get0 C 6 (by decide) q48 dX0_negate_32 ?_
      refine J.aload_n C dX0_negate_35 rfl 0 rfl ?_
      refine J.get0 C 5 (by decide) q47 dX0_negate_36 ?_
      refine J.aload_n C dX0_negate_39 rfl 0 rfl ?_
      refine J.get0 C 7 (by decide) q49 dX0_negate_40 ?_
      refine J.callV (rest := []) C (x_dif (gk (by decide)) rfl (gk (by decide)) rfl (gk (by decide)) rfl (by decide) hI2.2.2.1 h2 h1' PP_pos (hV _ (rg_lt p))) _ rfl q110 q112 qs3 q18 q113 (by show _ = _ ∧ _ ≠ _ ∧ _ ≠ _ ∧ _ = some 3; decide +kernel) ⟨by decide, by decide⟩ rfl (by decide) dX0_negate_43 (fun v f3 g3 hR => ?_)
      obtain ⟨rfl, -, h3⟩ := hR
      refine J.eqs (st' := []) rfl ?_
      have hI3 := hI2.nu h3 (by decide)
      refine J.aload_n C dX0_negate_46 rfl 0 rfl ?_
      refine J.iload_n C dX0_negate_47 rfl 1 rfl ?_
      refine J.aload_n C dX0_negate_48 rfl 0 rfl ?_
      refine J.get0 C 7 (by decide) q49 dX0_negate_49 ?_
      refine J.callV (rest := []) C (x_put (gk (by decide)) rfl hI3.1 h3.2) _ rfl q90 q92 qs1 q18 q93 (by show _ = _ ∧ _ ≠ _ ∧ _ ≠ _ ∧ _ = some 2; decide +kernel) ⟨by decide, by decide⟩ rfl (by decide) dX0_negate_52 (fun v f4 g4 hR => ?_)
      obtain ⟨rfl, -, e4, h4⟩ := hR
      refine J.eqs (st' := []) rfl ?_
      exact J.vret C dX0_negate_55 ⟨rfl, hI3.put e4 h4⟩
    · exact absurd h (by omega)
  · intro k f' g' hk hF ih
    obtain hF := hF
    refine J.iload_n C dX0_negate_11 rfl 2 rfl ?_
    refine J.bipush (v := nI 12) C dX0_negate_12 (by decide) ?_
    refine J.ncmp_ge (tgt := 30) C dX0_negate_14 (by decide) (by omega) (by omega) (fun h => ?_) (fun h => ?_)
    · exact absurd h (by omega)
    · refine J.aload_n C dX0_negate_17 rfl 0 rfl ?_
      refine J.get0 C 6 (by decide) q48 dX0_negate_18 ?_
      refine J.iload_n C dX0_negate_21 rfl 2 rfl ?_
      refine J.iconst (v := nI 0) C dX0_negate_22 (by decide) ?_
      refine J.fast C hF (gk (by decide)) (Nat.zero_add k).symm (by show _ < 12; omega) rfl dX0_negate_23 (fun f' hF => ?_)
      refine J.inc (lv' := [(3, .int _), (0, .ref _), (1, .int _)]) C dX0_negate_24 2 rfl (by decide) rfl ?_
      refine J.goto (tgt := 11) C dX0_negate_27 (by decide) ?_
      refine J.perm (lv' := [(0, .ref _), (1, .int _), (3, .int _)]) [1, 2, 0] rfl ?_
      exact ih _ _ hF
set_option maxHeartbeats 4000000 in
set_option maxRecDepth 100000 in
theorem x_zero {l : Launch} {D : va_G} {d dL : ClassId} {a : Nat → Nat} {f : gF} {g : gG} {V : Nat → Nat} {Ln : Nat} {p : Int32} (hI : XI V Ln f) (hV : VOK V) : gMet l yX0_zero cX0_zero 2 (some .boolean) 2 51 D d dL 0 a [.ref (a 0), .int p] f g (fun v f' g' => v = some (.int (tf (V (rg p) = 0))) ∧ XI V Ln f') := by
  refine gMet.of (by decide) (Nat.le_of_ble_eq_true rfl) (fun z C => ?_)
  show J z f g 0 [(0, .ref (a 0)), (1, .int p)] []
  refine J.aload_n C dX0_zero_0 rfl 0 rfl ?_
  refine J.iload_n C dX0_zero_1 rfl 1 rfl ?_
  refine J.aload_n C dX0_zero_2 rfl 0 rfl ?_
  refine J.get0 C 5 (by decide) q47 dX0_zero_3 ?_
  refine J.callV (rest := []) C (x_get (gk (by decide)) rfl hI.1) _ rfl q102 q104 qs2 q18 q105 (by show _ = _ ∧ _ ≠ _ ∧ _ ≠ _ ∧ _ = some 2; decide +kernel) ⟨by decide, by decide⟩ rfl (by decide) dX0_zero_6 (fun v f1 g1 hR => ?_)
  obtain ⟨rfl, -, h1⟩ := hR
  refine J.eqs (st' := []) rfl ?_
  have hI1 := hI.nu h1 (by decide)
  refine J.aload_n C dX0_zero_9 rfl 0 rfl ?_
  refine J.get0 C 5 (by decide) q47 dX0_zero_10 ?_
  refine J.callS (rest := []) C (x_isZero (gk (by decide)) rfl h1.2 (Nat.lt_trans (hV _ (rg_lt p)) P12)) q156 q157 q18 q158 (by show _ ≠ _ ∧ _ ≠ _ ∧ _ = some 1; decide +kernel) ⟨by decide, by decide⟩ rfl (by decide) dX0_zero_13 (fun v f2 g2 hR => ?_)
  obtain ⟨rfl, -, rfl⟩ := hR
  refine J.eqs (st' := [.int _]) rfl ?_
  exact J.zret C tf_nar dX0_zero_16 ⟨rfl, hI1⟩
set_option maxHeartbeats 4000000 in
set_option maxRecDepth 100000 in
theorem x_carry {l : Launch} {D : va_G} {d dL : ClassId} {a : Nat → Nat} {f : gF} {g : gG} {V : Nat → Nat} {Ln : Nat} {r w : Int32} (hI : XI V Ln f) (hV : VOK V) : gMet l yX0_carry cX0_carry 4 none 2 51 D d dL 0 a [.ref (a 0), .int r, .int w] f g (fun v f' g' => v = none ∧ XI (va_up V (rg r) ((V (rg r) + un w * RR % PP) % PP)) Ln f') := by
  refine gMet.of (by decide) (Nat.le_of_ble_eq_true rfl) (fun z C => ?_)
  show J z f g 0 [(0, .ref (a 0)), (1, .int r), (2, .int w)] []
  refine J.iconst (v := nI 0) C dX0_carry_0 (by decide) ?_
  refine J.istore_n (lv' := [(3, .int _), (0, .ref _), (1, .int _), (2, .int _)]) C dX0_carry_1 rfl (by decide) rfl ?_
  refine J.perm (lv' := [(0, .ref _), (1, .int _), (2, .int _), (3, .int _)]) [1, 2, 3, 0] rfl ?_
  refine J.loop (head := 2) 12 (fun k f' g' => fil f 6 0 (fun _ => nI 0) k f') (fun k => [(0, .ref (a 0)), (1, .int r), (2, .int w), (3, .int (nI k))]) ?_ ?_ 12 0 _ _ rfl fil.zero
  · intro f' g' hF
    obtain hF := hF
    refine J.iload_n C dX0_carry_2 rfl 3 rfl ?_
    refine J.bipush (v := nI 12) C dX0_carry_3 (by decide) ?_
    refine J.ncmp_ge (tgt := 21) C dX0_carry_5 (by decide) (by omega) (by omega) (fun h => ?_) (fun h => ?_)
    · have hI1 := hI.fil hF (by decide)
      refine J.aload_n C dX0_carry_21 rfl 0 rfl ?_
      refine J.get0 C 5 (by decide) q47 dX0_carry_22 ?_
      refine J.iconst (v := nI 0) C dX0_carry_25 (by decide) ?_
      refine J.iload_n C dX0_carry_26 rfl 2 rfl ?_
      refine J.iast C (gk (by decide)) (by show _ < 12; omega) dX0_carry_27 ?_
      have h2 : Rd 4294967296 12 ((va_up f' 6 (upd (f' 6) 0 w)) 6) (un w) := by
        intro k hk
        rw [va_up_self]
        by_cases e0 : k = 0
        · subst e0
          rw [pk_us, dgt_0', Nat.mod_eq_of_lt (un_lt w), nI_un]
        · rw [pk_un e0, dgt_hi (n := 1) (by rw [Nat.pow_one]; exact un_lt w) (by omega) okb32]
          have := hF.at.1 k hk
          rwa [Nat.zero_add] at this
      have hI2 : XI V Ln (va_up f' 6 (upd (f' 6) 0 w)) := hI1.keep (va_up_ne _ _ (by decide)) (va_up_ne _ _ (by decide)) (va_up_ne _ _ (by decide)) (va_up_ne _ _ (by decide))
      generalize va_up f' 6 (upd (f' 6) 0 w) = f2 at h2 hI2 ⊢
      have lw : un w < PP := Nat.lt_trans (un_lt w) (by decide)
      refine J.aload_n C dX0_carry_28 rfl 0 rfl ?_
      refine J.aload_n C dX0_carry_29 rfl 0 rfl ?_
      refine J.get0 C 5 (by decide) q47 dX0_carry_30 ?_
      refine J.aload_n C dX0_carry_33 rfl 0 rfl ?_
      refine J.get0 C 3 (by decide) q45 dX0_carry_34 ?_
      refine J.aload_n C dX0_carry_37 rfl 0 rfl ?_
      refine J.get0 C 6 (by decide) q48 dX0_carry_38 ?_
      refine J.callV (rest := []) C (x_mont (gk (by decide)) rfl (gk (by decide)) rfl (gk (by decide)) rfl (by decide) hI2.2.2.1 h2 hI2.2.2.2 (Nat.lt_trans lw P12) (Nat.mod_lt _ PP_pos)) _ rfl q118 q120 qs4 q18 q121 (by show _ = _ ∧ _ ≠ _ ∧ _ ≠ _ ∧ _ = some 3; decide +kernel) ⟨by decide, by decide⟩ rfl (by decide) dX0_carry_41 (fun v f3 g3 hR => ?_)
      obtain ⟨rfl, T, lT, eT, h3⟩ := hR
      refine J.eqs (st' := []) rfl ?_
      have hI3 := hI2.nu h3 (by decide)
      have h3 := h3.val (mo_in lT eT)
      refine J.aload_n C dX0_carry_44 rfl 0 rfl ?_
      refine J.iload_n C dX0_carry_45 rfl 1 rfl ?_
      refine J.aload_n C dX0_carry_46 rfl 0 rfl ?_
      refine J.get0 C 5 (by decide) q47 dX0_carry_47 ?_
      refine J.callV (rest := []) C (x_get (gk (by decide)) rfl hI3.1) _ rfl q102 q104 qs2 q18 q105 (by show _ = _ ∧ _ ≠ _ ∧ _ ≠ _ ∧ _ = some 2; decide +kernel) ⟨by decide, by decide⟩ rfl (by decide) dX0_carry_50 (fun v f4 g4 hR => ?_)
      obtain ⟨rfl, -, h4⟩ := hR
      refine J.eqs (st' := []) rfl ?_
      have hI4 := hI3.nu h4 (by decide)
      have hB := h4.keep h3.2 (by decide)
      refine J.aload_n C dX0_carry_53 rfl 0 rfl ?_
      refine J.aload_n C dX0_carry_54 rfl 0 rfl ?_
      refine J.get0 C 5 (by decide) q47 dX0_carry_55 ?_
      refine J.aload_n C dX0_carry_58 rfl 0 rfl ?_
      refine J.get0 C 6 (by decide) q48 dX0_carry_59 ?_
      refine J.aload_n C dX0_carry_62 rfl 0 rfl ?_
      refine J.get0 C 7 (by decide) q49 dX0_carry_63 ?_
      refine J.callV (rest := []) C (x_sumOf (gk (by decide)) rfl (gk (by decide)) rfl (gk (by decide)) rfl (by decide) hI4.2.2.1 h4.2 hB (hV _ (rg_lt r)) (Nat.mod_lt _ PP_pos)) _ rfl q28 q30 qs0 q18 q31 (by show _ = _ ∧ _ ≠ _ ∧ _ ≠ _ ∧ _ = some 3; decide +kernel) ⟨by decide, by decide⟩ rfl (by decide) dX0_carry_66 (fun v f5 g5 hR => ?_)
      obtain ⟨rfl, -, h5⟩ := hR
      refine J.eqs (st' := []) rfl ?_
      have hI5 := hI4.nu h5 (by decide)
      refine J.aload_n C dX0_carry_69 rfl 0 rfl ?_
      refine J.iload_n C dX0_carry_70 rfl 1 rfl ?_
      refine J.aload_n C dX0_carry_71 rfl 0 rfl ?_
      refine J.get0 C 7 (by decide) q49 dX0_carry_72 ?_
      refine J.callV (rest := []) C (x_put (gk (by decide)) rfl hI5.1 h5.2) _ rfl q90 q92 qs1 q18 q93 (by show _ = _ ∧ _ ≠ _ ∧ _ ≠ _ ∧ _ = some 2; decide +kernel) ⟨by decide, by decide⟩ rfl (by decide) dX0_carry_75 (fun v f6 g6 hR => ?_)
      obtain ⟨rfl, -, e6, h6⟩ := hR
      refine J.eqs (st' := []) rfl ?_
      exact J.vret C dX0_carry_78 ⟨rfl, hI5.put e6 h6⟩
    · exact absurd h (by omega)
  · intro k f' g' hk hF ih
    obtain hF := hF
    refine J.iload_n C dX0_carry_2 rfl 3 rfl ?_
    refine J.bipush (v := nI 12) C dX0_carry_3 (by decide) ?_
    refine J.ncmp_ge (tgt := 21) C dX0_carry_5 (by decide) (by omega) (by omega) (fun h => ?_) (fun h => ?_)
    · exact absurd h (by omega)
    · refine J.aload_n C dX0_carry_8 rfl 0 rfl ?_
      refine J.get0 C 5 (by decide) q47 dX0_carry_9 ?_
      refine J.iload_n C dX0_carry_12 rfl 3 rfl ?_
      refine J.iconst (v := nI 0) C dX0_carry_13 (by decide) ?_
      refine J.fast C hF (gk (by decide)) (Nat.zero_add k).symm (by show _ < 12; omega) rfl dX0_carry_14 (fun f' hF => ?_)
      refine J.inc (lv' := [(3, .int _), (0, .ref _), (1, .int _), (2, .int _)]) C dX0_carry_15 3 rfl (by decide) rfl ?_
      refine J.goto (tgt := 2) C dX0_carry_18 (by decide) ?_
      refine J.perm (lv' := [(0, .ref _), (1, .int _), (2, .int _), (3, .int _)]) [1, 2, 3, 0] rfl ?_
      exact ih _ _ hF
set_option maxHeartbeats 4000000 in
set_option maxRecDepth 100000 in
theorem x_word {l : Launch} {D : va_G} {d dL : ClassId} {a : Nat → Nat} {f : gF} {g : gG} {V : Nat → Nat} {Ln : Nat} {r at_ : Int32} (hI : XI V Ln f) (hV : VOK V) : gMet l yX0_word cX0_word 3 (some .int) 0 0 D d dL 0 a [.ref (a 0), .int r, .int at_] f g (fun v f' g' => v = some (.int (nI (dgt 4294967296 (V (rg r)) (un at_ % 2147483648 % 12)))) ∧ XI V Ln f') := by
  refine gMet.of (by decide) (Nat.le_of_ble_eq_true rfl) (fun z C => ?_)
  show J z f g 0 [(0, .ref (a 0)), (1, .int r), (2, .int at_)] []
  refine J.aload_n C dX0_word_0 rfl 0 rfl ?_
  refine J.get0 C 0 (by decide) q42 dX0_word_1 ?_
  refine J.iload_n C dX0_word_4 rfl 1 rfl ?_
  refine J.iconst (v := nI 3) C dX0_word_5 (by decide) ?_
  refine J.iand C dX0_word_6 ?_
  refine J.eqi (w_and3 r) ?_
  refine J.bipush (v := nI 12) C dX0_word_7 (by decide) ?_
  refine J.imul C dX0_word_9 ?_
  refine J.eqi (pk_mul _ _) ?_
  refine J.iload_n C dX0_word_10 rfl 2 rfl ?_
  refine J.ldc C q85 dX0_word_11 ?_
  refine J.iand C dX0_word_13 ?_
  refine J.eqi (w_and31 at_) ?_
  refine J.bipush (v := nI 12) C dX0_word_14 (by decide) ?_
  refine J.irem C dX0_word_16 (by decide) ?_
  refine J.eqi (w_rem (Nat.mod_lt _ (by decide)) (by decide) (by decide)) ?_
  refine J.iadd C dX0_word_17 ?_
  refine J.eqi (w_add _ _) ?_
  refine J.iald C (gk (by decide)) (by have := rg_lt r; have h2 : un at_ % 2147483648 % 12 < 12 := Nat.mod_lt _ (by decide); show rg r * 12 + un at_ % 2147483648 % 12 < 48; omega) dX0_word_18 ?_
  refine J.eqi (hI.1 (rg r) (rg_lt r) (un at_ % 2147483648 % 12) (Nat.mod_lt _ (by decide))) ?_
  exact J.iret C dX0_word_19 ⟨rfl, hI⟩
set_option maxHeartbeats 4000000 in
set_option maxRecDepth 100000 in
theorem x_line {l : Launch} {D : va_G} {d dL : ClassId} {a : Nat → Nat} {f : gF} {g : gG} {V : Nat → Nat} {Ln : Nat} {part b0 b1 b2 b3 : Int32} (hI : XI V Ln f) (hV : VOK V) : gMet l yX0_line cX0_line 7 none 0 0 D d dL 0 a [.ref (a 0), .int part, .int b0, .int b1, .int b2, .int b3] f g (fun v f' g' => v = none ∧ XI V (lnU Ln part b0 b1 b2 b3) f') := by
  refine gMet.of (by decide) (Nat.le_of_ble_eq_true rfl) (fun z C => ?_)
  show J z f g 0 [(0, .ref (a 0)), (1, .int part), (2, .int b0), (3, .int b1), (4, .int b2), (5, .int b3)] []
  refine J.iconst (v := nI 4) C dX0_line_0 (by decide) ?_
  refine J.iload_n C dX0_line_1 rfl 1 rfl ?_
  refine J.ldc C q85 dX0_line_2 ?_
  refine J.iand C dX0_line_4 ?_
  refine J.eqi (w_and31 part) ?_
  refine J.iconst (v := nI 3) C dX0_line_5 (by decide) ?_
  refine J.irem C dX0_line_6 (by decide) ?_
  refine J.eqi (w_rem (Nat.mod_lt _ (by decide)) (by decide) (by decide)) ?_
  refine J.imul C dX0_line_7 ?_
  refine J.eqi (pk_mul _ _) ?_
  refine J.istore (lv' := [(6, .int _), (0, .ref _), (1, .int _), (2, .int _), (3, .int _), (4, .int _), (5, .int _)]) C dX0_line_8 (by decide) rfl ?_
  have hm : un part % 2147483648 % 3 < 3 := Nat.mod_lt _ (by decide)
  have hU := lnU_dgt Ln part b0 b1 b2 b3
  have hlt := lnU_lt Ln part b0 b1 b2 b3
  refine J.perm (lv' := [(0, .ref (a 0)), (2, .int b0), (3, .int b1), (4, .int b2), (5, .int b3), (6, .int (nI (4 * (un part % 2147483648 % 3))))]) [1, 3, 4, 5, 6, 0] rfl ?_
  generalize un part % 2147483648 % 3 = m at hm hU ⊢
  refine J.aload_n C dX0_line_10 rfl 0 rfl ?_
  refine J.get0 C 1 (by decide) q43 dX0_line_11 ?_
  refine J.iload C dX0_line_14 5 rfl ?_
  refine J.iload_n C dX0_line_16 rfl 1 rfl ?_
  refine J.iast C (gk (by decide)) (by show 4 * m < 12; omega) dX0_line_17 ?_
  refine J.aload_n C dX0_line_18 rfl 0 rfl ?_
  refine J.get0 C 1 (by decide) q43 dX0_line_19 ?_
  refine J.iload C dX0_line_22 5 rfl ?_
  refine J.iconst (v := nI 1) C dX0_line_24 (by decide) ?_
  refine J.iadd C dX0_line_25 ?_
  refine J.eqi (w_add _ _) ?_
  refine J.iload_n C dX0_line_26 rfl 2 rfl ?_
  refine J.iast C (gk (by decide)) (by show 4 * m + 1 < 12; omega) dX0_line_27 ?_
  refine J.aload_n C dX0_line_28 rfl 0 rfl ?_
  refine J.get0 C 1 (by decide) q43 dX0_line_29 ?_
  refine J.iload C dX0_line_32 5 rfl ?_
  refine J.iconst (v := nI 2) C dX0_line_34 (by decide) ?_
  refine J.iadd C dX0_line_35 ?_
  refine J.eqi (w_add _ _) ?_
  refine J.iload C dX0_line_36 3 rfl ?_
  refine J.iast C (gk (by decide)) (by show 4 * m + 2 < 12; omega) dX0_line_38 ?_
  refine J.aload_n C dX0_line_39 rfl 0 rfl ?_
  refine J.get0 C 1 (by decide) q43 dX0_line_40 ?_
  refine J.iload C dX0_line_43 5 rfl ?_
  refine J.iconst (v := nI 3) C dX0_line_45 (by decide) ?_
  refine J.iadd C dX0_line_46 ?_
  refine J.eqi (w_add _ _) ?_
  refine J.iload C dX0_line_47 4 rfl ?_
  refine J.iast C (gk (by decide)) (by show 4 * m + 3 < 12; omega) dX0_line_49 ?_
  refine J.vret C dX0_line_50 ⟨rfl, ?_⟩
  refine ⟨?_, ⟨fun k hk => ?_, hlt⟩, ?_⟩
  · simp only [va_up, if_neg (show ¬ (1 : Nat) = 2 by decide)]
    exact hI.1
  · have hk0 := hI.2.1.1 k hk
    rw [hU k hk]
    simp only [va_up, upd, if_true]
    by_cases e3 : k = 4 * m + 3
    · subst e3
      rw [if_pos rfl, if_neg (by omega), if_neg (by omega), if_neg (by omega), if_pos rfl, nI_un]
    · rw [if_neg e3]
      by_cases e2 : k = 4 * m + 2
      · subst e2
        rw [if_pos rfl, if_neg (by omega), if_neg (by omega), if_pos rfl, nI_un]
      · rw [if_neg e2]
        by_cases e1 : k = 4 * m + 1
        · subst e1
          rw [if_pos rfl, if_neg (by omega), if_pos rfl, nI_un]
        · rw [if_neg e1]
          by_cases e0 : k = 4 * m
          · subst e0
            rw [if_pos rfl, if_pos rfl, nI_un]
          · rw [if_neg e0, if_neg e0, if_neg e1, if_neg e2, if_neg e3]
            exact hk0
  · simp only [va_up, if_neg (show ¬ (3 : Nat) = 2 by decide), if_neg (show ¬ (4 : Nat) = 2 by decide)]
    exact hI.2.2
end Xfa
end
section
section Xfb
set_option maxHeartbeats 4000000 in
set_option maxRecDepth 100000 in
theorem x_load {l : Launch} {D : va_G} {d dL : ClassId} {a : Nat → Nat} {f : gF} {g : gG} {V : Nat → Nat} {Ln : Nat} {r : Int32} (hI : XI V Ln f) (hV : VOK V) : gMet l yX0_load cX0_load 4 (some .boolean) 2 51 D d dL 0 a [.ref (a 0), .int r] f g (fun v f' g' => v = some (.int (tf (PP ≤ Ln))) ∧ XI (va_up V (rg r) (Ln % PP)) Ln f') := by
  refine gMet.of (by decide) (Nat.le_of_ble_eq_true rfl) (fun z C => ?_)
  show J z f g 0 [(0, .ref (a 0)), (1, .int r)] []
  have lL : Ln < 2 * PP := Nat.lt_trans hI.2.1.2 P_half
  have tail : ∀ gS : gG, J z f gS 19 [(0, .ref (a 0)), (1, .int r)] [.int (tf (PP ≤ Ln))] := by
    intro gS
    refine J.istore_n (lv' := [(2, .int _), (0, .ref _), (1, .int _)]) C dX0_load_19 rfl (by decide) rfl ?_
    refine J.iconst (v := nI 0) C dX0_load_20 (by decide) ?_
    refine J.istore_n (lv' := [(3, .int _), (2, .int _), (0, .ref _), (1, .int _)]) C dX0_load_21 rfl (by decide) rfl ?_
    refine J.perm (lv' := [(0, .ref _), (1, .int _), (2, .int _), (3, .int _)]) [2, 3, 1, 0] rfl ?_
    refine J.loop (head := 22) 12 (fun k f' g' => fil f 8 0 (fun j => nI (dgt 4294967296 Ln j)) k f') (fun k => [(0, .ref (a 0)), (1, .int r), (2, .int (tf (PP ≤ Ln))), (3, .int (nI k))]) ?_ ?_ 12 0 _ _ rfl fil.zero
    · intro f' g' hF
      obtain hF := hF
      refine J.iload_n C dX0_load_22 rfl 3 rfl ?_
      refine J.bipush (v := nI 12) C dX0_load_23 (by decide) ?_
      refine J.ncmp_ge (tgt := 46) C dX0_load_25 (by decide) (by omega) (by omega) (fun h => ?_) (fun h => ?_)
      · have h1 := hF.nu
        have hI1 := hI.fil hF (by decide)
        refine J.iload_n C dX0_load_46 rfl 2 rfl ?_
        refine J.if_eq (tgt := 66) C dX0_load_47 (by decide) (fun c => ?_) (fun c => ?_)
        · have c2 : Ln < PP := Classical.byContradiction fun q => by rw [tf_t (Nat.le_of_not_lt q)] at c; exact absurd c (by decide)
          have hI2 := hI1
          have h2 := h1.val (Nat.mod_eq_of_lt c2).symm
          refine J.aload_n C dX0_load_66 rfl 0 rfl ?_
          refine J.iload_n C dX0_load_67 rfl 1 rfl ?_
          refine J.aload_n C dX0_load_68 rfl 0 rfl ?_
          refine J.get0 C 7 (by decide) q49 dX0_load_69 ?_
          refine J.callV (rest := []) C (x_put (gk (by decide)) rfl hI2.1 h2.2) _ rfl q90 q92 qs1 q18 q93 (by show _ = _ ∧ _ ≠ _ ∧ _ ≠ _ ∧ _ = some 2; decide +kernel) ⟨by decide, by decide⟩ rfl (by decide) dX0_load_72 (fun v f3 g3 hR => ?_)
          obtain ⟨rfl, -, e3, h3⟩ := hR
          refine J.eqs (st' := []) rfl ?_
          refine J.iload_n C dX0_load_75 rfl 2 rfl ?_
          exact J.zret C tf_nar dX0_load_76 ⟨rfl, hI2.put e3 h3⟩
        · have c2 : PP ≤ Ln := Classical.byContradiction fun q => c (tf_f q)
          refine J.aload_n C dX0_load_50 rfl 0 rfl ?_
          refine J.get0 C 1 (by decide) q43 dX0_load_51 ?_
          refine J.aload_n C dX0_load_54 rfl 0 rfl ?_
          refine J.get0 C 2 (by decide) q44 dX0_load_55 ?_
          refine J.aload_n C dX0_load_58 rfl 0 rfl ?_
          refine J.get0 C 7 (by decide) q49 dX0_load_59 ?_
          refine J.callS (rest := []) C (x_minus (gk (by decide)) rfl (gk (by decide)) rfl (gk (by decide)) rfl hI1.2.1.1 hI1.2.2.1 hI1.2.1.2 P12) q39 q40 q18 q41 (by show _ ≠ _ ∧ _ ≠ _ ∧ _ = some 3; decide +kernel) ⟨by decide, by decide⟩ rfl (by decide) dX0_load_62 (fun v f2 g2 hR => ?_)
          obtain ⟨rfl, -, h2⟩ := hR
          refine J.eqs (st' := [.int _]) rfl ?_
          have hI2 := hI1.nu h2 (by decide)
          have q2 := q_ge hI.2.1.2 c2
          rw [Nat.mod_eq_of_lt hI.2.1.2] at q2
          have h2 := (h1.trans h2).md okb32 q2
          refine J.pop C dX0_load_65 rfl ?_
          refine J.aload_n C dX0_load_66 rfl 0 rfl ?_
          refine J.iload_n C dX0_load_67 rfl 1 rfl ?_
          refine J.aload_n C dX0_load_68 rfl 0 rfl ?_
          refine J.get0 C 7 (by decide) q49 dX0_load_69 ?_
          refine J.callV (rest := []) C (x_put (gk (by decide)) rfl hI2.1 h2.2) _ rfl q90 q92 qs1 q18 q93 (by show _ = _ ∧ _ ≠ _ ∧ _ ≠ _ ∧ _ = some 2; decide +kernel) ⟨by decide, by decide⟩ rfl (by decide) dX0_load_72 (fun v f3 g3 hR => ?_)
          obtain ⟨rfl, -, e3, h3⟩ := hR
          refine J.eqs (st' := []) rfl ?_
          refine J.iload_n C dX0_load_75 rfl 2 rfl ?_
          exact J.zret C tf_nar dX0_load_76 ⟨rfl, hI2.put e3 h3⟩
      · exact absurd h (by omega)
    · intro k f' g' hk hF ih
      obtain hF := hF
      refine J.iload_n C dX0_load_22 rfl 3 rfl ?_
      refine J.bipush (v := nI 12) C dX0_load_23 (by decide) ?_
      refine J.ncmp_ge (tgt := 46) C dX0_load_25 (by decide) (by omega) (by omega) (fun h => ?_) (fun h => ?_)
      · exact absurd h (by omega)
      · refine J.aload_n C dX0_load_28 rfl 0 rfl ?_
        refine J.get0 C 7 (by decide) q49 dX0_load_29 ?_
        refine J.iload_n C dX0_load_32 rfl 3 rfl ?_
        refine J.aload_n C dX0_load_33 rfl 0 rfl ?_
        refine J.get0 C 1 (by decide) q43 dX0_load_34 ?_
        refine J.iload_n C dX0_load_37 rfl 3 rfl ?_
        refine J.iald C (gk (by decide)) (by show _ < 12; omega) dX0_load_38 ?_
        refine J.eqi (y := nI (dgt 4294967296 Ln k)) (by rw [hF.other (by decide)]; exact hI.2.1.1 k hk) ?_
        refine J.fast C hF (gk (by decide)) (Nat.zero_add k).symm (by show _ < 12; omega) rfl dX0_load_39 (fun f' hF => ?_)
        refine J.inc (lv' := [(3, .int _), (0, .ref _), (1, .int _), (2, .int _)]) C dX0_load_40 3 rfl (by decide) rfl ?_
        refine J.goto (tgt := 22) C dX0_load_43 (by decide) ?_
        refine J.perm (lv' := [(0, .ref _), (1, .int _), (2, .int _), (3, .int _)]) [1, 2, 3, 0] rfl ?_
        exact ih _ _ hF
  refine J.aload_n C dX0_load_0 rfl 0 rfl ?_
  refine J.get0 C 1 (by decide) q43 dX0_load_1 ?_
  refine J.aload_n C dX0_load_4 rfl 0 rfl ?_
  refine J.get0 C 2 (by decide) q44 dX0_load_5 ?_
  refine J.callS (rest := []) C (x_isLess (gk (by decide)) rfl (gk (by decide)) rfl hI.2.1.1 hI.2.2.1 hI.2.1.2 P12) q36 q37 q18 q38 (by show _ ≠ _ ∧ _ ≠ _ ∧ _ = some 2; decide +kernel) ⟨by decide, by decide⟩ rfl (by decide) dX0_load_8 (fun v f1 g1 hR => ?_)
  obtain ⟨rfl, -, e1⟩ := hR
  obtain rfl := e1.symm
  refine J.eqs (st' := [.int _]) rfl ?_
  refine J.if_ne (tgt := 18) C dX0_load_11 (by decide) (fun c => ?_) (fun c => ?_)
  · have c2 : Ln < PP := Classical.byContradiction fun q => c (tf_f q)
    refine J.iconst (v := nI 0) C dX0_load_18 (by decide) ?_
    refine J.eqi (y := tf (PP ≤ Ln)) (tf_f (by omega)).symm ?_
    exact tail _
  · have c2 : ¬ Ln < PP := fun q => absurd ((tf_t q).symm.trans c) (by decide)
    refine J.iconst (v := nI 1) C dX0_load_14 (by decide) ?_
    refine J.goto (tgt := 19) C dX0_load_15 (by decide) ?_
    refine J.eqi (y := tf (PP ≤ Ln)) (tf_t (by omega)).symm ?_
    exact tail _
theorem sqs_lt {x : Nat} (h : x < PP) : ∀ j, sqs x j < PP := by
  intro j
  cases j with
  | zero => exact h
  | succ j => exact Nat.mod_lt _ PP_pos
theorem w_and15 (x : Int32) : x &&& nI 15 = nI (un x % 16) := pk_and x 4 (by decide +kernel)
theorem Rd.one {b n : Nat} (hb : okb b) {h : Nat → Int32} (h0 : h 0 = nI 1) (hz : ∀ k, k < n → k ≠ 0 → h k = nI 0) : Rd b n h 1 := fun k hk => by
  have h1 : 1 < b ^ 1 := by rw [Nat.pow_one]; rcases hb with rfl | rfl <;> decide
  by_cases e : k = 0
  · subst e
    rw [h0, dgt_0', Nat.mod_eq_of_lt (by rw [Nat.pow_one] at h1; exact h1)]
  · rw [hz k hk e, dgt_hi h1 (by omega) hb]
set_option maxHeartbeats 4000000 in
set_option maxRecDepth 100000 in
theorem x_squares {l : Launch} {D : va_G} {d dL : ClassId} {a : Nat → Nat} {f : gF} {g : gG} {V : Nat → Nat} {Ln : Nat} {r p n : Int32} (hI : XI V Ln f) (hV : VOK V) : gMet l yX0_squares cX0_squares 6 none 2 51 D d dL 0 a [.ref (a 0), .int r, .int p, .int n] f g (fun v f' g' => v = none ∧ XI (va_up V (rg r) (sqs (V (rg p)) (un n % 16 + 1))) Ln f') := by
  refine gMet.of (by decide) (Nat.le_of_ble_eq_true rfl) (fun z C => ?_)
  show J z f g 0 [(0, .ref (a 0)), (1, .int r), (2, .int p), (3, .int n)] []
  refine J.aload_n C dX0_squares_0 rfl 0 rfl ?_
  refine J.iload_n C dX0_squares_1 rfl 2 rfl ?_
  refine J.aload_n C dX0_squares_2 rfl 0 rfl ?_
  refine J.get0 C 5 (by decide) q47 dX0_squares_3 ?_
  refine J.callV (rest := []) C (x_get (gk (by decide)) rfl hI.1) _ rfl q102 q104 qs2 q18 q105 (by show _ = _ ∧ _ ≠ _ ∧ _ ≠ _ ∧ _ = some 2; decide +kernel) ⟨by decide, by decide⟩ rfl (by decide) dX0_squares_6 (fun v f1 g1 hR => ?_)
  obtain ⟨rfl, -, h1⟩ := hR
  refine J.eqs (st' := []) rfl ?_
  have hI1 := hI.nu h1 (by decide)
  refine J.aload_n C dX0_squares_9 rfl 0 rfl ?_
  refine J.aload_n C dX0_squares_10 rfl 0 rfl ?_
  refine J.get0 C 5 (by decide) q47 dX0_squares_11 ?_
  refine J.aload_n C dX0_squares_14 rfl 0 rfl ?_
  refine J.get0 C 3 (by decide) q45 dX0_squares_15 ?_
  refine J.aload_n C dX0_squares_18 rfl 0 rfl ?_
  refine J.get0 C 6 (by decide) q48 dX0_squares_19 ?_
  refine J.callV (rest := []) C (x_mont (gk (by decide)) rfl (gk (by decide)) rfl (gk (by decide)) rfl (by decide) hI1.2.2.1 h1.2 hI1.2.2.2 (Nat.lt_trans (hV _ (rg_lt p)) P12) (Nat.mod_lt _ PP_pos)) _ rfl q118 q120 qs4 q18 q121 (by show _ = _ ∧ _ ≠ _ ∧ _ ≠ _ ∧ _ = some 3; decide +kernel) ⟨by decide, by decide⟩ rfl (by decide) dX0_squares_22 (fun v f2 g2 hR => ?_)
  obtain ⟨rfl, T, lT, eT, h2⟩ := hR
  refine J.eqs (st' := []) rfl ?_
  have hI2 := hI1.nu h2 (by decide)
  refine J.iload_n C dX0_squares_25 rfl 3 rfl ?_
  refine J.bipush (v := nI 15) C dX0_squares_26 (by decide) ?_
  refine J.iand C dX0_squares_28 ?_
  refine J.eqi (w_and15 n) ?_
  refine J.istore (lv' := [(4, .int _), (0, .ref _), (1, .int _), (2, .int _), (3, .int _)]) C dX0_squares_29 (by decide) rfl ?_
  refine J.perm (lv' := [(0, .ref _), (1, .int _), (4, .int _)]) [1, 2, 0] rfl ?_
  refine J.loopM (head := 31) (fun m : Nat => m) (fun m f' g' => XI V Ln f' ∧ m ≤ un n % 16 + 1 ∧ ∃ T, Rd 4294967296 12 (f' 7) T ∧ T < PP ∧ T = (sqs (V (rg p)) (un n % 16 + 1 - m) * RR) % PP) (fun m => [(0, .ref (a 0)), (1, .int r), (4, .int (pm m))]) ?_ (un n % 16 + 2) (un n % 16 + 1) _ _ (Nat.lt_succ_self _) ⟨hI2, Nat.le_refl _, T, h2.2, lT, by rw [Nat.sub_self]; exact mo_in lT eT⟩
  clear h1 h2 hI1 hI2 eT lT T f1 f2
  intro m f2 g2 hQ ih
  obtain ⟨hI2, hm, T, hT, lT, eT⟩ := hQ
  cases m with
  | zero =>
    refine J.iload C dX0_squares_31 2 rfl ?_
    refine J.if_lt (tgt := 88) C dX0_squares_33 (by decide) (fun c => ?_) (fun c => ?_)
    · refine J.iconst (v := nI 0) C dX0_squares_88 (by decide) ?_
      refine J.istore (lv' := [(4, .int _), (0, .ref _), (1, .int _)]) C dX0_squares_89 (by decide) rfl ?_
      refine J.perm (lv' := [(0, .ref _), (1, .int _), (4, .int _)]) [1, 2, 0] rfl ?_
      refine J.loop (head := 91) 12 (fun k f' g' => fil f2 6 0 (fun _ => nI 0) k f') (fun k => [(0, .ref (a 0)), (1, .int r), (4, .int (nI k))]) ?_ ?_ 12 0 _ _ rfl fil.zero
      · intro f' g' hF
        obtain hF := hF
        refine J.iload C dX0_squares_91 2 rfl ?_
        refine J.bipush (v := nI 12) C dX0_squares_93 (by decide) ?_
        refine J.ncmp_ge (tgt := 112) C dX0_squares_95 (by decide) (by omega) (by omega) (fun h => ?_) (fun h => ?_)
        · have hI3 := hI2.fil hF (by decide)
          refine J.aload_n C dX0_squares_112 rfl 0 rfl ?_
          refine J.get0 C 5 (by decide) q47 dX0_squares_113 ?_
          refine J.iconst (v := nI 0) C dX0_squares_116 (by decide) ?_
          refine J.iconst (v := nI 1) C dX0_squares_117 (by decide) ?_
          refine J.iast C (gk (by decide)) (by show _ < 12; omega) dX0_squares_118 ?_
          have h3 : Rd 4294967296 12 ((va_up f' 6 (upd (f' 6) 0 (nI 1))) 6) 1 := by
            rw [va_up_self]
            refine Rd.one okb32 pk_us (fun k hk e0 => ?_)
            rw [pk_un e0]
            have := hF.at.1 k hk
            rwa [Nat.zero_add] at this
          have h7 : Rd 4294967296 12 ((va_up f' 6 (upd (f' 6) 0 (nI 1))) 7) T := by
            rw [va_up_ne _ _ (by decide), hF.other (by decide)]
            exact hT
          have hI4 : XI V Ln (va_up f' 6 (upd (f' 6) 0 (nI 1))) := hI3.keep (va_up_ne _ _ (by decide)) (va_up_ne _ _ (by decide)) (va_up_ne _ _ (by decide)) (va_up_ne _ _ (by decide))
          generalize va_up f' 6 (upd (f' 6) 0 (nI 1)) = f4 at h3 h7 hI4 ⊢
          refine J.aload_n C dX0_squares_119 rfl 0 rfl ?_
          refine J.aload_n C dX0_squares_120 rfl 0 rfl ?_
          refine J.get0 C 6 (by decide) q48 dX0_squares_121 ?_
          refine J.aload_n C dX0_squares_124 rfl 0 rfl ?_
          refine J.get0 C 5 (by decide) q47 dX0_squares_125 ?_
          refine J.aload_n C dX0_squares_128 rfl 0 rfl ?_
          refine J.get0 C 7 (by decide) q49 dX0_squares_129 ?_
          refine J.callV (rest := []) C (x_mont (gk (by decide)) rfl (gk (by decide)) rfl (gk (by decide)) rfl (by decide) hI4.2.2.1 h7 h3 (Nat.lt_trans lT P12) (by decide)) _ rfl q118 q120 qs4 q18 q121 (by show _ = _ ∧ _ ≠ _ ∧ _ ≠ _ ∧ _ = some 3; decide +kernel) ⟨by decide, by decide⟩ rfl (by decide) dX0_squares_132 (fun v f5 g5 hR => ?_)
          obtain ⟨rfl, T5, lT5, eT5, h5⟩ := hR
          refine J.eqs (st' := []) rfl ?_
          have hI5 := hI4.nu h5 (by decide)
          have h5 := h5.val ((mo_out lT5 eT eT5).trans (Nat.mod_eq_of_lt (sqs_lt (hV _ (rg_lt p)) _)))
          refine J.aload_n C dX0_squares_135 rfl 0 rfl ?_
          refine J.iload_n C dX0_squares_136 rfl 1 rfl ?_
          refine J.aload_n C dX0_squares_137 rfl 0 rfl ?_
          refine J.get0 C 7 (by decide) q49 dX0_squares_138 ?_
          refine J.callV (rest := []) C (x_put (gk (by decide)) rfl hI5.1 h5.2) _ rfl q90 q92 qs1 q18 q93 (by show _ = _ ∧ _ ≠ _ ∧ _ ≠ _ ∧ _ = some 2; decide +kernel) ⟨by decide, by decide⟩ rfl (by decide) dX0_squares_141 (fun v f6 g6 hR => ?_)
          obtain ⟨rfl, -, e6, h6⟩ := hR
          refine J.eqs (st' := []) rfl ?_
          exact J.vret C dX0_squares_144 ⟨rfl, hI5.put e6 h6⟩
        · exact absurd h (by omega)
      · intro k f' g' hk hF ihk
        obtain hF := hF
        refine J.iload C dX0_squares_91 2 rfl ?_
        refine J.bipush (v := nI 12) C dX0_squares_93 (by decide) ?_
        refine J.ncmp_ge (tgt := 112) C dX0_squares_95 (by decide) (by omega) (by omega) (fun h => ?_) (fun h => ?_)
        · exact absurd h (by omega)
        · refine J.aload_n C dX0_squares_98 rfl 0 rfl ?_
          refine J.get0 C 5 (by decide) q47 dX0_squares_99 ?_
          refine J.iload C dX0_squares_102 2 rfl ?_
          refine J.iconst (v := nI 0) C dX0_squares_104 (by decide) ?_
          refine J.fast C hF (gk (by decide)) (Nat.zero_add k).symm (by show _ < 12; omega) rfl dX0_squares_105 (fun f' hF => ?_)
          refine J.inc (lv' := [(4, .int _), (0, .ref _), (1, .int _)]) C dX0_squares_106 2 rfl (by decide) rfl ?_
          refine J.goto (tgt := 91) C dX0_squares_109 (by decide) ?_
          refine J.perm (lv' := [(0, .ref _), (1, .int _), (4, .int _)]) [1, 2, 0] rfl ?_
          exact ihk _ _ hF
    · exact absurd (show pm 0 < 0 by decide) c
  | succ m =>
    refine J.iload C dX0_squares_31 2 rfl ?_
    refine J.if_lt (tgt := 88) C dX0_squares_33 (by decide) (fun c => ?_) (fun c => ?_)
    · exact absurd c (nI_pos (n := m) (by omega))
    · refine J.aload_n C dX0_squares_36 rfl 0 rfl ?_
      refine J.aload_n C dX0_squares_37 rfl 0 rfl ?_
      refine J.get0 C 6 (by decide) q48 dX0_squares_38 ?_
      refine J.aload_n C dX0_squares_41 rfl 0 rfl ?_
      refine J.get0 C 6 (by decide) q48 dX0_squares_42 ?_
      refine J.aload_n C dX0_squares_45 rfl 0 rfl ?_
      refine J.get0 C 7 (by decide) q49 dX0_squares_46 ?_
      refine J.callV (rest := []) C (x_mont (gk (by decide)) rfl (gk (by decide)) rfl (gk (by decide)) rfl (by decide) hI2.2.2.1 hT hT (Nat.lt_trans lT P12) lT) _ rfl q118 q120 qs4 q18 q121 (by show _ = _ ∧ _ ≠ _ ∧ _ ≠ _ ∧ _ = some 3; decide +kernel) ⟨by decide, by decide⟩ rfl (by decide) dX0_squares_49 (fun v f3 g3 hR => ?_)
      obtain ⟨rfl, T2, lT2, eT2, h3⟩ := hR
      refine J.eqs (st' := []) rfl ?_
      have hI3 := hI2.nu h3 (by decide)
      refine J.iconst (v := nI 0) C dX0_squares_52 (by decide) ?_
      refine J.istore (lv' := [(5, .int _), (0, .ref _), (1, .int _), (4, .int _)]) C dX0_squares_53 (by decide) rfl ?_
      refine J.perm (lv' := [(0, .ref _), (1, .int _), (4, .int _), (5, .int _)]) [1, 2, 3, 0] rfl ?_
      refine J.loop (head := 55) 12 (fun k f' g' => fil f3 7 0 (fun j => nI (dgt 4294967296 T2 j)) k f') (fun k => [(0, .ref (a 0)), (1, .int r), (4, .int (nI m)), (5, .int (nI k))]) ?_ ?_ 12 0 _ _ rfl fil.zero
      · intro f' g' hF
        obtain hF := hF
        refine J.iload C dX0_squares_55 3 rfl ?_
        refine J.bipush (v := nI 12) C dX0_squares_57 (by decide) ?_
        refine J.ncmp_ge (tgt := 82) C dX0_squares_59 (by decide) (by omega) (by omega) (fun h => ?_) (fun h => ?_)
        · have hI4 := hI3.fil hF (by decide)
          have h4 := hF.rd
          refine J.iinc (x := nI m) (v := pm m) (lv' := [(4, .int _), (0, .ref _), (1, .int _), (5, .int _)]) C dX0_squares_82 2 rfl (pm_dec m) (by decide) rfl ?_
          refine J.goto (tgt := 31) C dX0_squares_85 (by decide) ?_
          refine J.perm (lv' := [(0, .ref _), (1, .int _), (4, .int _)]) [1, 2, 0] rfl ?_
          refine ih m _ _ ⟨hI4, by omega, T2, h4, lT2, ?_⟩ (Nat.lt_succ_self m)
          have e7 : un n % 16 + 1 - m = (un n % 16 + 1 - (m + 1)) + 1 := by omega
          rw [e7]
          exact mo_sq lT2 eT eT2
        · exact absurd h (by omega)
      · intro k f' g' hk hF ihk
        obtain hF := hF
        refine J.iload C dX0_squares_55 3 rfl ?_
        refine J.bipush (v := nI 12) C dX0_squares_57 (by decide) ?_
        refine J.ncmp_ge (tgt := 82) C dX0_squares_59 (by decide) (by omega) (by omega) (fun h => ?_) (fun h => ?_)
        · exact absurd h (by omega)
        · refine J.aload_n C dX0_squares_62 rfl 0 rfl ?_
          refine J.get0 C 6 (by decide) q48 dX0_squares_63 ?_
          refine J.iload C dX0_squares_66 3 rfl ?_
          refine J.aload_n C dX0_squares_68 rfl 0 rfl ?_
          refine J.get0 C 7 (by decide) q49 dX0_squares_69 ?_
          refine J.iload C dX0_squares_72 3 rfl ?_
          refine J.iald C (gk (by decide)) (by show _ < 12; omega) dX0_squares_74 ?_
          refine J.eqi (y := nI (dgt 4294967296 T2 k)) (by rw [hF.other (by decide)]; exact h3.2 k hk) ?_
          refine J.fast C hF (gk (by decide)) (Nat.zero_add k).symm (by show _ < 12; omega) rfl dX0_squares_75 (fun f' hF => ?_)
          refine J.inc (lv' := [(5, .int _), (0, .ref _), (1, .int _), (4, .int _)]) C dX0_squares_76 3 rfl (by decide) rfl ?_
          refine J.goto (tgt := 55) C dX0_squares_79 (by decide) ?_
          refine J.perm (lv' := [(0, .ref _), (1, .int _), (4, .int _), (5, .int _)]) [1, 2, 3, 0] rfl ?_
          exact ihk _ _ hF
theorem two_cop : Nat.Coprime PP 2 := by decide +kernel
theorem PP_odd : PP % 2 = 1 := by decide +kernel
theorem hf_lt {X : Nat} (h : X < PP) : hf X < PP := by
  unfold hf
  split <;> omega
theorem hf_two (X : Nat) : (hf X * 2) % PP = X % PP := by
  unfold hf
  have h := PP_odd
  split
  · rw [Nat.div_mul_cancel (Nat.dvd_of_mod_eq_zero (by assumption))]
  · rw [Nat.div_mul_cancel (Nat.dvd_of_mod_eq_zero (by omega)), Nat.add_mod_right]
/-- what halving till it is odd makes of U and of what goes with it -/
def OD (U X U' X' : Nat) : Prop := U' % 2 = 1 ∧ 0 < U' ∧ U' ∣ U ∧ (U % 2 = 1 → U' = U) ∧ X' < PP ∧ ∀ p, (X * p) % PP = U % PP → (X' * p) % PP = U' % PP
theorem hf_goes {X U p : Nat} (hU : U % 2 = 0) (h : (X * p) % PP = U % PP) : (hf X * p) % PP = (U / 2) % PP := by
  refine md_cancel two_cop ?_
  rw [Nat.div_mul_cancel (Nat.dvd_of_mod_eq_zero hU), Nat.mul_right_comm, Nat.mul_mod, hf_two, ← Nat.mul_mod, h]
set_option maxHeartbeats 4000000 in
set_option maxRecDepth 100000 in
theorem x_odd {l : Launch} {D : va_G} {d dL : ClassId} {a : Nat → Nat} {f : gF} {g : gG} {ia iw U X : Nat} (k_ia : gOk 0 ia) (n_ia : gLen 0 ia = 12) (k_iw : gOk 0 iw) (n_iw : gLen 0 iw = 12) (hne : 3 ≠ ia) (hnw : 3 ≠ iw) (haw : ia ≠ iw) (hp : Rd 4294967296 12 (f 3) PP) (hU : Rd 4294967296 12 (f ia) U) (lU : U < 4294967296 ^ 12) (pU : 0 < U) (hX : Rd 4294967296 12 (f iw) X) (lX : X < PP) : gMet l yX0_odd cX0_odd 3 none 2 48 D d dL 0 a [.ref (a 0), .ref (a ia), .ref (a iw)] f g (fun v f' g' => v = none ∧ ∃ U' X', (∀ j, j ≠ ia → j ≠ iw → f' j = f j) ∧ Rd 4294967296 12 (f' ia) U' ∧ Rd 4294967296 12 (f' iw) X' ∧ OD U X U' X') := by
  refine gMet.of (by decide) (Nat.le_of_ble_eq_true rfl) (fun z C => ?_)
  show J z f g 0 [(0, .ref (a 0)), (1, .ref (a ia)), (2, .ref (a iw))] []
  refine J.loopM (head := 0) (fun q : Nat × Nat => q.1) (fun q f' g' => (∀ j, j ≠ ia → j ≠ iw → f' j = f j) ∧ Rd 4294967296 12 (f' ia) q.1 ∧ Rd 4294967296 12 (f' iw) q.2 ∧ 0 < q.1 ∧ q.1 ∣ U ∧ (U % 2 = 1 → q.1 = U) ∧ q.2 < PP ∧ ∀ p, (X * p) % PP = U % PP → (q.2 * p) % PP = q.1 % PP) (fun _ => [(0, .ref (a 0)), (1, .ref (a ia)), (2, .ref (a iw))]) ?_ (U + 1) (U, X) _ _ (Nat.lt_succ_self U) ⟨fun _ _ _ => rfl, hU, hX, pU, Nat.dvd_refl U, fun _ => rfl, lX, fun _ h => h⟩
  intro q f1 g1 hQ ih
  obtain ⟨U1, X1⟩ := q
  obtain ⟨hk1, hU1, hX1, pU1, dU1, oU1, lX1, eX1⟩ := hQ
  dsimp only at hU1 hX1 pU1 dU1 oU1 lX1 eX1 ih
  have lU1 : U1 < 4294967296 ^ 12 := Nat.lt_of_le_of_lt (Nat.le_of_dvd pU dU1) lU
  have e0 : dgt 4294967296 U1 0 % 2 ^ 1 = U1 % 2 := by rw [dgt_0']; omega
  refine J.aload_n C dX0_odd_0 rfl 1 rfl ?_
  refine J.iconst (v := nI 0) C dX0_odd_1 (by decide) ?_
  refine J.iald C k_ia (by rw [n_ia]; omega) dX0_odd_2 ?_
  refine J.eqi (hU1 0 (by decide)) ?_
  refine J.iconst (v := nI 1) C dX0_odd_3 (by decide) ?_
  refine J.iand C dX0_odd_4 ?_
  refine J.eqi (w_and (m := 1) 1 (dgt_lt32 okb32 _ _) rfl (by decide)) ?_
  refine J.if_ne (tgt := 20) C dX0_odd_5 (by decide) (fun c => ?_) (fun c => ?_)
  · have c2 : U1 % 2 = 1 := by
      rcases Nat.mod_two_eq_zero_or_one U1 with q | q
      · exact absurd (by rw [e0, q]; rfl) c
      · exact q
    exact J.vret C dX0_odd_20 ⟨rfl, U1, X1, hk1, hU1, hX1, c2, pU1, dU1, oU1, lX1, eX1⟩
  · have c2 : U1 % 2 = 0 := by
      rcases Nat.mod_two_eq_zero_or_one U1 with q | q
      · exact q
      · rw [e0, q] at c; exact absurd c (by decide)
    refine J.aload_n C dX0_odd_8 rfl 1 rfl ?_
    refine J.callS (rest := []) C (x_shift k_ia n_ia hU1 lU1) q166 q167 q18 q168 (by show _ ≠ _ ∧ _ ≠ _ ∧ _ = some 1; decide +kernel) ⟨by decide, by decide⟩ rfl (by decide) dX0_odd_9 (fun v f2 g2 hR => ?_)
    obtain ⟨rfl, -, h2⟩ := hR
    refine J.eqs (st' := []) rfl ?_
    refine J.aload_n C dX0_odd_12 rfl 0 rfl ?_
    refine J.aload_n C dX0_odd_13 rfl 2 rfl ?_
    refine J.callV (rest := []) C (x_half k_iw n_iw hnw (h2.keep (by rw [hk1 3 hne hnw]; exact hp) hne) (h2.keep hX1 haw.symm) lX1) _ rfl q144 q146 qs6 q18 q147 (by show _ = _ ∧ _ ≠ _ ∧ _ ≠ _ ∧ _ = some 1; decide +kernel) ⟨by decide, by decide⟩ rfl (by decide) dX0_odd_14 (fun v f3 g3 hR => ?_)
    obtain ⟨rfl, -, h3⟩ := hR
    refine J.eqs (st' := []) rfl ?_
    refine J.goto (tgt := 0) C dX0_odd_17 (by decide) ?_
    refine ih (U1 / 2, hf X1) _ _ ⟨fun j h5 h6 => ?_, h3.keep h2.2 haw, h3.2, by omega, Nat.dvd_trans ⟨2, by omega⟩ dU1, fun q => ?_, hf_lt lX1, fun p h5 => hf_goes c2 (eX1 p h5)⟩ (by dsimp only; omega)
    · rw [h3.ne h6, h2.ne h5, hk1 j h5 h6]
    · have := oU1 q; omega
end Xfb
end
section
section Xin
theorem md_addc {N a b c : Nat} (h : (a + c) % N = (b + c) % N) : a % N = b % N := by
  have key : ∀ {a b : Nat}, b ≤ a → (a + c) % N = (b + c) % N → a % N = b % N := by
    intro a b hle h
    have h1 := Nat.dvd_of_mod_eq_zero (Nat.sub_mod_eq_zero_of_mod_eq h)
    obtain ⟨k, hk⟩ := h1
    have e : a = b + N * k := by omega
    rw [e, Nat.add_mul_mod_self_left]
  rcases Nat.le_total b a with q | q
  · exact key q h
  · exact (key q h.symm).symm
/-- a difference goes with the difference -/
theorem iv_sub {p u v x y : Nat} (lx : x < PP) (huv : u ≤ v) (hx : (x * p) % PP = u % PP) (hy : (y * p) % PP = v % PP) : ((y + PP - x) % PP * p) % PP = (v - u) % PP := by
  rw [Nat.mul_mod, Nat.mod_mod, ← Nat.mul_mod]
  refine md_addc (c := x * p) ?_
  rw [← Nat.add_mul, show y + PP - x + x = y + PP by omega, Nat.add_mul, Nat.add_mul_mod_self_left, hy, Nat.add_mod, hx, ← Nat.add_mod, show v - u + u = v by omega]
def IV (p u v x y : Nat) : Prop := (0 < u ∧ 0 < v ∧ u ≤ PP ∧ v ≤ PP) ∧ Nat.Coprime u v ∧ (x < PP ∧ y < PP) ∧ (x * p) % PP = u % PP ∧ (y * p) % PP = v % PP
theorem cop_sub {u v : Nat} (h : Nat.Coprime u v) (hle : u ≤ v) : Nat.Coprime u (v - u) := by
  have h1 : Nat.gcd u (v - u) ∣ u := Nat.gcd_dvd_left _ _
  have h2 : Nat.gcd u (v - u) ∣ v := by
    have := Nat.dvd_add (Nat.gcd_dvd_right u (v - u)) h1
    rwa [Nat.sub_add_cancel hle] at this
  have h3 := Nat.dvd_gcd h1 h2
  rw [show Nat.gcd u v = 1 from h] at h3
  exact Nat.dvd_one.mp h3
theorem cop_dvd {u v u' v' : Nat} (h : Nat.Coprime u v) (hu : u' ∣ u) (hv : v' ∣ v) : Nat.Coprime u' v' := by
  have h3 := Nat.dvd_gcd (Nat.dvd_trans (Nat.gcd_dvd_left u' v') hu) (Nat.dvd_trans (Nat.gcd_dvd_right u' v') hv)
  rw [show Nat.gcd u v = 1 from h] at h3
  exact Nat.dvd_one.mp h3
theorem iv_ne {p u v x y u' v' x' y' : Nat} (h : IV p u v x y) (hu : u ≠ 1) (hv : v ≠ 1) (ou : OD u x u' x') (ov : OD v y v' y') : u' ≠ v' := by
  intro e
  obtain ⟨-, hc, -⟩ := h
  have h1 := cop_dvd hc ou.2.2.1 ov.2.2.1
  rw [← e] at h1
  have h2 : u' = 1 := by
    have h3 : Nat.gcd u' u' = 1 := h1
    rwa [Nat.gcd_self] at h3
  have hu2 : u % 2 = 0 := by
    rcases Nat.mod_two_eq_zero_or_one u with q | q
    · exact q
    · exact absurd ((ou.2.2.2.1 q).symm.trans h2) hu
  have hv2 : v % 2 = 0 := by
    rcases Nat.mod_two_eq_zero_or_one v with q | q
    · exact q
    · exact absurd ((ov.2.2.2.1 q).symm.trans (e.symm.trans h2)) hv
  have h4 := Nat.dvd_gcd (Nat.dvd_of_mod_eq_zero hu2) (Nat.dvd_of_mod_eq_zero hv2)
  rw [show Nat.gcd u v = 1 from hc] at h4
  exact absurd (Nat.le_of_dvd (by decide) h4) (by decide)
theorem iv_od {p u v x y u' v' x' y' : Nat} (h : IV p u v x y) (ou : OD u x u' x') (ov : OD v y v' y') : IV p u' v' x' y' ∧ u' ≤ u ∧ v' ≤ v := by
  obtain ⟨⟨h1, h2, h3, h4⟩, hc, -, h5, h6⟩ := h
  have hu := Nat.le_of_dvd h1 ou.2.2.1
  have hv := Nat.le_of_dvd h2 ov.2.2.1
  exact ⟨⟨⟨ou.2.1, ov.2.1, by omega, by omega⟩, cop_dvd hc ou.2.2.1 ov.2.2.1, ⟨ou.2.2.2.2.1, ov.2.2.2.2.1⟩, ou.2.2.2.2.2 p h5, ov.2.2.2.2.2 p h6⟩, hu, hv⟩
theorem iv_lt {p u v x y : Nat} (h : IV p u v x y) (hlt : u < v) : IV p u (v - u) x ((y + PP - x) % PP) := by
  obtain ⟨⟨h1, h2, h3, h4⟩, hc, ⟨lx, ly⟩, h5, h6⟩ := h
  exact ⟨⟨h1, by omega, h3, by omega⟩, cop_sub hc (by omega), ⟨lx, Nat.mod_lt _ PP_pos⟩, h5, iv_sub lx (by omega) h5 h6⟩
theorem iv_gt {p u v x y : Nat} (h : IV p u v x y) (hlt : v < u) : IV p (u - v) v ((x + PP - y) % PP) y := by
  obtain ⟨⟨h1, h2, h3, h4⟩, hc, ⟨lx, ly⟩, h5, h6⟩ := h
  exact ⟨⟨by omega, h2, by omega, h4⟩, (cop_sub hc.symm (by omega)).symm, ⟨Nat.mod_lt _ PP_pos, ly⟩, iv_sub ly (by omega) h6 h5, h6⟩
theorem iv_start {p : Nat} (h0 : 0 < p) (h : p < PP) : IV p p PP 1 0 := ⟨⟨h0, PP_pos, Nat.le_of_lt h, Nat.le_refl PP⟩, (PP_cop h0 h).symm, ⟨by decide, PP_pos⟩, by rw [Nat.one_mul], by rw [Nat.zero_mul, Nat.mod_self, Nat.zero_mod]⟩
theorem q_sub {u v : Nat} (hle : u ≤ v) (hv : v ≤ PP) : (v + 4294967296 ^ 12 - u) % 4294967296 ^ 12 = (v - u) % 4294967296 ^ 12 := by
  rw [show v + 4294967296 ^ 12 - u = (v - u) + 4294967296 ^ 12 by omega, Nat.add_mod_right]
set_option maxHeartbeats 4000000 in
set_option maxRecDepth 100000 in
theorem x_invert {l : Launch} {D : va_G} {d dL : ClassId} {a : Nat → Nat} {f : gF} {g : gG} {V : Nat → Nat} {Ln : Nat} {r p : Int32} (hI : XI V Ln f) (hV : VOK V) : gMet l yX0_invert cX0_invert 4 (some .boolean) 3 74 D d dL 0 a [.ref (a 0), .int r, .int p] f g (fun v f' g' => (V (rg p) = 0 ∧ v = some (.int (nI 0)) ∧ XI V Ln f') ∨ (V (rg p) ≠ 0 ∧ v = some (.int (nI 1)) ∧ ∃ X, X < PP ∧ (X * V (rg p)) % PP = 1 ∧ XI (va_up V (rg r) X) Ln f')) := by
  refine gMet.of (by decide) (Nat.le_of_ble_eq_true rfl) (fun z C => ?_)
  show J z f g 0 [(0, .ref (a 0)), (1, .int r), (2, .int p)] []
  have tail : ∀ (f1 : gF) (g1 : gG) (u v x y : Nat), V (rg p) ≠ 0 → XI V Ln f1 → Rd 4294967296 12 (f1 9) u → Rd 4294967296 12 (f1 11) x → Rd 4294967296 12 (f1 12) y → IV (V (rg p)) u v x y → (u = 1 ∨ v = 1) → J z f1 g1 196 [(0, .ref (a 0)), (1, .int r)] [] := by
    intro f1 g1 u v x y hp0 hI1 hu hx hy hIV h1
    have hlu := Nat.lt_of_le_of_lt hIV.1.2.2.1 P12
    have h11 : 1 % PP = 1 := by decide
    refine J.aload_n C dX0_invert_196 rfl 0 rfl ?_
    refine J.iload_n C dX0_invert_197 rfl 1 rfl ?_
    refine J.aload_n C dX0_invert_198 rfl 0 rfl ?_
    refine J.get0 C 8 (by decide) q50 dX0_invert_199 ?_
    refine J.callS (rest := [.int _, .ref _]) C (x_isOne (gk (by decide)) rfl hu hlu) q159 q160 q18 q161 (by show _ ≠ _ ∧ _ ≠ _ ∧ _ = some 1; decide +kernel) ⟨by decide, by decide⟩ rfl (Nat.le_of_ble_eq_true rfl) dX0_invert_202 (fun v1 f2 g2 hR => ?_)
    obtain ⟨rfl, -, e2⟩ := hR
    obtain rfl := e2.symm
    refine J.eqs (st' := [.int _, .int _, .ref _]) rfl ?_
    refine J.if_eq (tgt := 215) C dX0_invert_205 (by decide) (fun c => ?_) (fun c => ?_)
    · have c1 : ¬ u = 1 := fun q => absurd ((tf_t q).symm.trans c) (by decide)
      have c2 : v = 1 := h1.resolve_left c1
      refine J.aload_n C dX0_invert_215 rfl 0 rfl ?_
      refine J.get0 C 11 (by decide) q53 dX0_invert_216 ?_
      refine J.callV (rest := []) C (x_put (gk (by decide)) rfl hI1.1 hy) _ rfl q90 q92 qs1 q18 q93 (by show _ = _ ∧ _ ≠ _ ∧ _ ≠ _ ∧ _ = some 2; decide +kernel) ⟨by decide, by decide⟩ rfl (Nat.le_of_ble_eq_true rfl) dX0_invert_219 (fun v2 f3 g3 hR => ?_)
      obtain ⟨rfl, -, e3, h3⟩ := hR
      refine J.eqs (st' := []) rfl ?_
      refine J.iconst (v := nI 1) C dX0_invert_222 (by decide) ?_
      exact J.zret C rfl dX0_invert_223 (Or.inr ⟨hp0, rfl, y, hIV.2.2.1.2, by rw [hIV.2.2.2.2, c2, h11], hI1.put e3 h3⟩)
    · have c2 : u = 1 := Classical.byContradiction fun q => c (tf_f q)
      refine J.aload_n C dX0_invert_208 rfl 0 rfl ?_
      refine J.get0 C 10 (by decide) q52 dX0_invert_209 ?_
      refine J.goto (tgt := 219) C dX0_invert_212 (by decide) ?_
      refine J.callV (rest := []) C (x_put (gk (by decide)) rfl hI1.1 hx) _ rfl q90 q92 qs1 q18 q93 (by show _ = _ ∧ _ ≠ _ ∧ _ ≠ _ ∧ _ = some 2; decide +kernel) ⟨by decide, by decide⟩ rfl (Nat.le_of_ble_eq_true rfl) dX0_invert_219 (fun v2 f3 g3 hR => ?_)
      obtain ⟨rfl, -, e3, h3⟩ := hR
      refine J.eqs (st' := []) rfl ?_
      refine J.iconst (v := nI 1) C dX0_invert_222 (by decide) ?_
      exact J.zret C rfl dX0_invert_223 (Or.inr ⟨hp0, rfl, x, hIV.2.2.1.1, by rw [hIV.2.2.2.1, c2, h11], hI1.put e3 h3⟩)
  refine J.aload_n C dX0_invert_0 rfl 0 rfl ?_
  refine J.iload_n C dX0_invert_1 rfl 2 rfl ?_
  refine J.aload_n C dX0_invert_2 rfl 0 rfl ?_
  refine J.get0 C 8 (by decide) q50 dX0_invert_3 ?_
  refine J.callV (rest := []) C (x_get (gk (by decide)) rfl hI.1) _ rfl q102 q104 qs2 q18 q105 (by show _ = _ ∧ _ ≠ _ ∧ _ ≠ _ ∧ _ = some 2; decide +kernel) ⟨by decide, by decide⟩ rfl (Nat.le_of_ble_eq_true rfl) dX0_invert_6 (fun v1 f1 g1 hR => ?_)
  obtain ⟨rfl, -, h1⟩ := hR
  refine J.eqs (st' := []) rfl ?_
  have hI1 := hI.nu h1 (by decide)
  refine J.aload_n C dX0_invert_9 rfl 0 rfl ?_
  refine J.get0 C 8 (by decide) q50 dX0_invert_10 ?_
  refine J.callS (rest := []) C (x_isZero (gk (by decide)) rfl h1.2 (Nat.lt_trans (hV _ (rg_lt p)) P12)) q156 q157 q18 q158 (by show _ ≠ _ ∧ _ ≠ _ ∧ _ = some 1; decide +kernel) ⟨by decide, by decide⟩ rfl (Nat.le_of_ble_eq_true rfl) dX0_invert_13 (fun v1 f2 g2 hR => ?_)
  obtain ⟨rfl, -, e2⟩ := hR
  obtain rfl := e2.symm
  refine J.eqs (st' := [.int _]) rfl ?_
  refine J.if_eq (tgt := 21) C dX0_invert_16 (by decide) (fun c => ?_) (fun c => ?_)
  · have hp0 : V (rg p) ≠ 0 := fun q => absurd ((tf_t q).symm.trans c) (by decide)
    refine J.iconst (v := nI 0) C dX0_invert_21 (by decide) ?_
    refine J.istore_n (lv' := [(3, .int _), (0, .ref _), (1, .int _), (2, .int _)]) C dX0_invert_22 rfl (by decide) rfl ?_
    refine J.perm (lv' := [(0, .ref _), (1, .int _), (3, .int _)]) [1, 2, 0] rfl ?_
    refine J.loop (head := 23) 12 (fun k f' g' => (∀ j, j ≠ 10 → j ≠ 11 → j ≠ 12 → f' j = f1 j) ∧ (∀ j, j < k → f' 10 j = nI (dgt 4294967296 PP j)) ∧ (∀ j, j < k → f' 11 j = nI 0) ∧ (∀ j, j < k → f' 12 j = nI 0)) (fun k => [(0, .ref (a 0)), (1, .int r), (3, .int (nI k))]) ?_ ?_ 12 0 _ _ rfl ⟨fun _ _ _ _ => rfl, fun _ h => absurd h (Nat.not_lt_zero _), fun _ h => absurd h (Nat.not_lt_zero _), fun _ h => absurd h (Nat.not_lt_zero _)⟩
    · intro f3 g3 hI2
      obtain hI2 := hI2
      refine J.iload_n C dX0_invert_23 rfl 2 rfl ?_
      refine J.bipush (v := nI 12) C dX0_invert_24 (by decide) ?_
      refine J.ncmp_ge (tgt := 61) C dX0_invert_26 (by decide) (by omega) (by omega) (fun h => ?_) (fun h => ?_)
      · obtain ⟨hk0, hk1, hk2, hk3⟩ := hI2
        refine J.aload_n C dX0_invert_61 rfl 0 rfl ?_
        refine J.get0 C 10 (by decide) q52 dX0_invert_62 ?_
        refine J.iconst (v := nI 0) C dX0_invert_65 (by decide) ?_
        refine J.iconst (v := nI 1) C dX0_invert_66 (by decide) ?_
        refine J.iast C (gk (by decide)) (by show _ < 12; omega) dX0_invert_67 ?_
        refine J.perm (lv' := [(0, .ref _), (1, .int _)]) [0, 1] rfl ?_
        have hJ : XI V Ln (va_up f3 11 (upd (f3 11) 0 (nI 1))) := hI1.keep (by rw [va_up_ne _ _ (by decide), hk0 1 (by decide) (by decide) (by decide)]) (by rw [va_up_ne _ _ (by decide), hk0 2 (by decide) (by decide) (by decide)]) (by rw [va_up_ne _ _ (by decide), hk0 3 (by decide) (by decide) (by decide)]) (by rw [va_up_ne _ _ (by decide), hk0 4 (by decide) (by decide) (by decide)])
        have hu : Rd 4294967296 12 ((va_up f3 11 (upd (f3 11) 0 (nI 1))) 9) (V (rg p)) := by rw [va_up_ne _ _ (by decide), hk0 9 (by decide) (by decide) (by decide)]; exact h1.2
        have hv : Rd 4294967296 12 ((va_up f3 11 (upd (f3 11) 0 (nI 1))) 10) PP := by rw [va_up_ne _ _ (by decide)]; exact hk1
        have hx : Rd 4294967296 12 ((va_up f3 11 (upd (f3 11) 0 (nI 1))) 11) 1 := by rw [va_up_self]; exact Rd.one okb32 pk_us (fun k hk e0 => by rw [pk_un e0]; exact hk2 k hk)
        have hy : Rd 4294967296 12 ((va_up f3 11 (upd (f3 11) 0 (nI 1))) 12) 0 := by rw [va_up_ne _ _ (by decide)]; exact Rd.zero hk3
        generalize va_up f3 11 (upd (f3 11) 0 (nI 1)) = f4 at hJ hu hv hx hy ⊢
        have hst := iv_start (Nat.pos_of_ne_zero hp0) (hV _ (rg_lt p))
        refine J.loopM (head := 68) (fun q : Nat × Nat × Nat × Nat => q.1 + q.2.1) (fun q f' g' => XI V Ln f' ∧ Rd 4294967296 12 (f' 9) q.1 ∧ Rd 4294967296 12 (f' 10) q.2.1 ∧ Rd 4294967296 12 (f' 11) q.2.2.1 ∧ Rd 4294967296 12 (f' 12) q.2.2.2 ∧ IV (V (rg p)) q.1 q.2.1 q.2.2.1 q.2.2.2) (fun _ => [(0, .ref (a 0)), (1, .int r)]) ?_ (V (rg p) + PP + 1) (V (rg p), PP, 1, 0) _ _ (Nat.lt_succ_self _) ⟨hJ, hu, hv, hx, hy, hst⟩
        clear hJ hu hv hx hy hst f4 hk0 hk1 hk2 hk3 f3
        intro q f4 g4 hQ ih
        obtain ⟨u, v, x, y⟩ := q
        obtain ⟨hJ, hu, hv, hx, hy, hIV⟩ := hQ
        dsimp only at hu hv hx hy hIV ih
        have hlu := Nat.lt_of_le_of_lt hIV.1.2.2.1 P12
        have hlv := Nat.lt_of_le_of_lt hIV.1.2.2.2 P12
        refine J.aload_n C dX0_invert_68 rfl 0 rfl ?_
        refine J.get0 C 8 (by decide) q50 dX0_invert_69 ?_
        refine J.callS (rest := []) C (x_isOne (gk (by decide)) rfl hu hlu) q159 q160 q18 q161 (by show _ ≠ _ ∧ _ ≠ _ ∧ _ = some 1; decide +kernel) ⟨by decide, by decide⟩ rfl (Nat.le_of_ble_eq_true rfl) dX0_invert_72 (fun v1 f5 g5 hR => ?_)
        obtain ⟨rfl, -, e2⟩ := hR
        obtain rfl := e2.symm
        refine J.eqs (st' := [.int _]) rfl ?_
        refine J.if_ne (tgt := 196) C dX0_invert_75 (by decide) (fun c => ?_) (fun c => ?_)
        · exact tail _ _ u v x y hp0 hJ hu hx hy hIV (Or.inl (Classical.byContradiction fun q => c (tf_f q)))
        · have c1 : u ≠ 1 := fun q => absurd ((tf_t q).symm.trans c) (by decide)
          refine J.aload_n C dX0_invert_78 rfl 0 rfl ?_
          refine J.get0 C 9 (by decide) q51 dX0_invert_79 ?_
          refine J.callS (rest := []) C (x_isOne (gk (by decide)) rfl hv hlv) q159 q160 q18 q161 (by show _ ≠ _ ∧ _ ≠ _ ∧ _ = some 1; decide +kernel) ⟨by decide, by decide⟩ rfl (Nat.le_of_ble_eq_true rfl) dX0_invert_82 (fun v1 f5 g5 hR => ?_)
          obtain ⟨rfl, -, e2⟩ := hR
          obtain rfl := e2.symm
          refine J.eqs (st' := [.int _]) rfl ?_
          refine J.if_ne (tgt := 196) C dX0_invert_85 (by decide) (fun d1 => ?_) (fun d1 => ?_)
          · exact tail _ _ u v x y hp0 hJ hu hx hy hIV (Or.inr (Classical.byContradiction fun q => d1 (tf_f q)))
          · have c2 : v ≠ 1 := fun q => absurd ((tf_t q).symm.trans d1) (by decide)
            refine J.aload_n C dX0_invert_88 rfl 0 rfl ?_
            refine J.aload_n C dX0_invert_89 rfl 0 rfl ?_
            refine J.get0 C 8 (by decide) q50 dX0_invert_90 ?_
            refine J.aload_n C dX0_invert_93 rfl 0 rfl ?_
            refine J.get0 C 10 (by decide) q52 dX0_invert_94 ?_
            refine J.callV (rest := []) C (x_odd (gk (by decide)) rfl (gk (by decide)) rfl (by decide) (by decide) (by decide) hJ.2.2.1 hu hlu hIV.1.1 hx hIV.2.2.1.1) _ rfl q162 q164 qs7 q18 q165 (by show _ = _ ∧ _ ≠ _ ∧ _ ≠ _ ∧ _ = some 2; decide +kernel) ⟨by decide, by decide⟩ rfl (Nat.le_of_ble_eq_true rfl) dX0_invert_97 (fun v1 f5 g5 hR => ?_)
            obtain ⟨rfl, u1, x1, hk5, hu5, hx5, ou⟩ := hR
            refine J.eqs (st' := []) rfl ?_
            have hJ5 : XI V Ln f5 := hJ.keep (hk5 1 (by decide) (by decide)) (hk5 2 (by decide) (by decide)) (hk5 3 (by decide) (by decide)) (hk5 4 (by decide) (by decide))
            have hv5 : Rd 4294967296 12 (f5 10) v := by rw [hk5 10 (by decide) (by decide)]; exact hv
            have hy5 : Rd 4294967296 12 (f5 12) y := by rw [hk5 12 (by decide) (by decide)]; exact hy
            refine J.aload_n C dX0_invert_100 rfl 0 rfl ?_
            refine J.aload_n C dX0_invert_101 rfl 0 rfl ?_
            refine J.get0 C 9 (by decide) q51 dX0_invert_102 ?_
            refine J.aload_n C dX0_invert_105 rfl 0 rfl ?_
            refine J.get0 C 11 (by decide) q53 dX0_invert_106 ?_
            refine J.callV (rest := []) C (x_odd (gk (by decide)) rfl (gk (by decide)) rfl (by decide) (by decide) (by decide) hJ5.2.2.1 hv5 hlv hIV.1.2.1 hy5 hIV.2.2.1.2) _ rfl q162 q164 qs7 q18 q165 (by show _ = _ ∧ _ ≠ _ ∧ _ ≠ _ ∧ _ = some 2; decide +kernel) ⟨by decide, by decide⟩ rfl (Nat.le_of_ble_eq_true rfl) dX0_invert_109 (fun v1 f6 g6 hR => ?_)
            obtain ⟨rfl, v1, y1, hk6, hv6, hy6, ov⟩ := hR
            refine J.eqs (st' := []) rfl ?_
            have hJ6 : XI V Ln f6 := hJ5.keep (hk6 1 (by decide) (by decide)) (hk6 2 (by decide) (by decide)) (hk6 3 (by decide) (by decide)) (hk6 4 (by decide) (by decide))
            have hu6 : Rd 4294967296 12 (f6 9) u1 := by rw [hk6 9 (by decide) (by decide)]; exact hu5
            have hx6 : Rd 4294967296 12 (f6 11) x1 := by rw [hk6 11 (by decide) (by decide)]; exact hx5
            have hne := iv_ne hIV c1 c2 ou ov
            obtain ⟨hIW, lu1, lv1⟩ := iv_od hIV ou ov
            have hlu1 := Nat.lt_of_le_of_lt hIW.1.2.2.1 P12
            have hlv1 := Nat.lt_of_le_of_lt hIW.1.2.2.2 P12
            have pu1 := hIW.1.1
            have pv1 := hIW.1.2.1
            refine J.aload_n C dX0_invert_112 rfl 0 rfl ?_
            refine J.get0 C 8 (by decide) q50 dX0_invert_113 ?_
            refine J.aload_n C dX0_invert_116 rfl 0 rfl ?_
            refine J.get0 C 9 (by decide) q51 dX0_invert_117 ?_
            refine J.callS (rest := []) C (x_isLess (gk (by decide)) rfl (gk (by decide)) rfl hu6 hv6 hlu1 hlv1) q36 q37 q18 q38 (by show _ ≠ _ ∧ _ ≠ _ ∧ _ = some 2; decide +kernel) ⟨by decide, by decide⟩ rfl (Nat.le_of_ble_eq_true rfl) dX0_invert_120 (fun v2 f7 g7 hR => ?_)
            obtain ⟨rfl, -, e2⟩ := hR
            obtain rfl := e2.symm
            refine J.eqs (st' := [.int _]) rfl ?_
            refine J.if_eq (tgt := 161) C dX0_invert_123 (by decide) (fun d2 => ?_) (fun d2 => ?_)
            · have c3 : v1 < u1 := by
                have : ¬ u1 < v1 := fun q => absurd ((tf_t q).symm.trans d2) (by decide)
                omega
              refine J.aload_n C dX0_invert_161 rfl 0 rfl ?_
              refine J.get0 C 8 (by decide) q50 dX0_invert_162 ?_
              refine J.aload_n C dX0_invert_165 rfl 0 rfl ?_
              refine J.get0 C 9 (by decide) q51 dX0_invert_166 ?_
              refine J.aload_n C dX0_invert_169 rfl 0 rfl ?_
              refine J.get0 C 8 (by decide) q50 dX0_invert_170 ?_
              refine J.callS (rest := []) C (x_minus (gk (by decide)) rfl (gk (by decide)) rfl (gk (by decide)) rfl hu6 hv6 hlu1 hlv1) q39 q40 q18 q41 (by show _ ≠ _ ∧ _ ≠ _ ∧ _ = some 3; decide +kernel) ⟨by decide, by decide⟩ rfl (Nat.le_of_ble_eq_true rfl) dX0_invert_173 (fun v2 f7 g7 hR => ?_)
              obtain ⟨rfl, -, h7⟩ := hR
              refine J.eqs (st' := [.int _]) rfl ?_
              have h7 := h7.md okb32 (q_sub (Nat.le_of_lt c3) hIW.1.2.2.1)
              have hJ7 := hJ6.nu h7 (by decide)
              refine J.pop C dX0_invert_176 rfl ?_
              refine J.aload_n C dX0_invert_177 rfl 0 rfl ?_
              refine J.aload_n C dX0_invert_178 rfl 0 rfl ?_
              refine J.get0 C 10 (by decide) q52 dX0_invert_179 ?_
              refine J.aload_n C dX0_invert_182 rfl 0 rfl ?_
              refine J.get0 C 11 (by decide) q53 dX0_invert_183 ?_
              refine J.aload_n C dX0_invert_186 rfl 0 rfl ?_
              refine J.get0 C 10 (by decide) q52 dX0_invert_187 ?_
              refine J.callV (rest := []) C (x_dif (gk (by decide)) rfl (gk (by decide)) rfl (gk (by decide)) rfl (by decide) hJ7.2.2.1 (h7.keep hx6 (by decide)) (h7.keep hy6 (by decide)) hIW.2.2.1.1 hIW.2.2.1.2) _ rfl q110 q112 qs3 q18 q113 (by show _ = _ ∧ _ ≠ _ ∧ _ ≠ _ ∧ _ = some 3; decide +kernel) ⟨by decide, by decide⟩ rfl (Nat.le_of_ble_eq_true rfl) dX0_invert_190 (fun v2 f8 g8 hR => ?_)
              obtain ⟨rfl, -, h8⟩ := hR
              refine J.eqs (st' := []) rfl ?_
              have hJ8 := hJ7.nu h8 (by decide)
              refine J.goto (tgt := 68) C dX0_invert_193 (by decide) ?_
              exact ih (u1 - v1, v1, (x1 + PP - y1) % PP, y1) _ _ ⟨hJ8, h8.keep h7.2 (by decide), h8.keep (h7.keep hv6 (by decide)) (by decide), h8.2, h8.keep (h7.keep hy6 (by decide)) (by decide), iv_gt hIW c3⟩ (by dsimp only; omega)
            · have c3 : u1 < v1 := Classical.byContradiction fun q => d2 (tf_f q)
              refine J.aload_n C dX0_invert_126 rfl 0 rfl ?_
              refine J.get0 C 9 (by decide) q51 dX0_invert_127 ?_
              refine J.aload_n C dX0_invert_130 rfl 0 rfl ?_
              refine J.get0 C 8 (by decide) q50 dX0_invert_131 ?_
              refine J.aload_n C dX0_invert_134 rfl 0 rfl ?_
              refine J.get0 C 9 (by decide) q51 dX0_invert_135 ?_
              refine J.callS (rest := []) C (x_minus (gk (by decide)) rfl (gk (by decide)) rfl (gk (by decide)) rfl hv6 hu6 hlv1 hlu1) q39 q40 q18 q41 (by show _ ≠ _ ∧ _ ≠ _ ∧ _ = some 3; decide +kernel) ⟨by decide, by decide⟩ rfl (Nat.le_of_ble_eq_true rfl) dX0_invert_138 (fun v2 f7 g7 hR => ?_)
              obtain ⟨rfl, -, h7⟩ := hR
              refine J.eqs (st' := [.int _]) rfl ?_
              have h7 := h7.md okb32 (q_sub (Nat.le_of_lt c3) hIW.1.2.2.2)
              have hJ7 := hJ6.nu h7 (by decide)
              refine J.pop C dX0_invert_141 rfl ?_
              refine J.aload_n C dX0_invert_142 rfl 0 rfl ?_
              refine J.aload_n C dX0_invert_143 rfl 0 rfl ?_
              refine J.get0 C 11 (by decide) q53 dX0_invert_144 ?_
              refine J.aload_n C dX0_invert_147 rfl 0 rfl ?_
              refine J.get0 C 10 (by decide) q52 dX0_invert_148 ?_
              refine J.aload_n C dX0_invert_151 rfl 0 rfl ?_
              refine J.get0 C 11 (by decide) q53 dX0_invert_152 ?_
              refine J.callV (rest := []) C (x_dif (gk (by decide)) rfl (gk (by decide)) rfl (gk (by decide)) rfl (by decide) hJ7.2.2.1 (h7.keep hy6 (by decide)) (h7.keep hx6 (by decide)) hIW.2.2.1.2 hIW.2.2.1.1) _ rfl q110 q112 qs3 q18 q113 (by show _ = _ ∧ _ ≠ _ ∧ _ ≠ _ ∧ _ = some 3; decide +kernel) ⟨by decide, by decide⟩ rfl (Nat.le_of_ble_eq_true rfl) dX0_invert_155 (fun v2 f8 g8 hR => ?_)
              obtain ⟨rfl, -, h8⟩ := hR
              refine J.eqs (st' := []) rfl ?_
              have hJ8 := hJ7.nu h8 (by decide)
              refine J.goto (tgt := 68) C dX0_invert_158 (by decide) ?_
              exact ih (u1, v1 - u1, x1, (y1 + PP - x1) % PP) _ _ ⟨hJ8, h8.keep (h7.keep hu6 (by decide)) (by decide), h8.keep h7.2 (by decide), h8.keep (h7.keep hx6 (by decide)) (by decide), h8.2, iv_lt hIW c3⟩ (by dsimp only; omega)
      · exact absurd h (by omega)
    · intro k f3 g3 hk hI2 ihk
      obtain hI2 := hI2
      refine J.iload_n C dX0_invert_23 rfl 2 rfl ?_
      refine J.bipush (v := nI 12) C dX0_invert_24 (by decide) ?_
      refine J.ncmp_ge (tgt := 61) C dX0_invert_26 (by decide) (by omega) (by omega) (fun h => ?_) (fun h => ?_)
      · exact absurd h (by omega)
      · obtain ⟨hk0, hk1, hk2, hk3⟩ := hI2
        refine J.aload_n C dX0_invert_29 rfl 0 rfl ?_
        refine J.get0 C 9 (by decide) q51 dX0_invert_30 ?_
        refine J.iload_n C dX0_invert_33 rfl 2 rfl ?_
        refine J.aload_n C dX0_invert_34 rfl 0 rfl ?_
        refine J.get0 C 2 (by decide) q44 dX0_invert_35 ?_
        refine J.iload_n C dX0_invert_38 rfl 2 rfl ?_
        refine J.iald C (gk (by decide)) (by show _ < 12; omega) dX0_invert_39 ?_
        refine J.eqi (y := nI (dgt 4294967296 PP k)) (by rw [hk0 3 (by decide) (by decide) (by decide)]; exact hI1.2.2.1 k hk) ?_
        refine J.iast C (gk (by decide)) (by show _ < 12; omega) dX0_invert_40 ?_
        refine J.aload_n C dX0_invert_41 rfl 0 rfl ?_
        refine J.get0 C 10 (by decide) q52 dX0_invert_42 ?_
        refine J.iload_n C dX0_invert_45 rfl 2 rfl ?_
        refine J.iconst (v := nI 0) C dX0_invert_46 (by decide) ?_
        refine J.iast C (gk (by decide)) (by show _ < 12; omega) dX0_invert_47 ?_
        refine J.aload_n C dX0_invert_48 rfl 0 rfl ?_
        refine J.get0 C 11 (by decide) q53 dX0_invert_49 ?_
        refine J.iload_n C dX0_invert_52 rfl 2 rfl ?_
        refine J.iconst (v := nI 0) C dX0_invert_53 (by decide) ?_
        refine J.iast C (gk (by decide)) (by show _ < 12; omega) dX0_invert_54 ?_
        refine J.inc (lv' := [(3, .int _), (0, .ref _), (1, .int _)]) C dX0_invert_55 2 rfl (by decide) rfl ?_
        refine J.goto (tgt := 23) C dX0_invert_58 (by decide) ?_
        refine J.perm (lv' := [(0, .ref _), (1, .int _), (3, .int _)]) [1, 2, 0] rfl ?_
        refine ihk _ _ ⟨fun j h10 h11 h12 => ?_, fun j hj => ?_, fun j hj => ?_, fun j hj => ?_⟩
        · simp only [va_up, if_neg h10, if_neg h11, if_neg h12]
          exact hk0 j h10 h11 h12
        · by_cases ej : j = k
          · subst ej; simp [va_up, upd]
          · simp [va_up, upd, ej]; exact hk1 j (by omega)
        · by_cases ej : j = k
          · subst ej; simp [va_up, upd]
          · simp [va_up, upd, ej]; exact hk2 j (by omega)
        · by_cases ej : j = k
          · subst ej; simp [va_up, upd]
          · simp [va_up, upd, ej]; exact hk3 j (by omega)
  · have hp0 : V (rg p) = 0 := Classical.byContradiction fun q => c (tf_f q)
    refine J.iconst (v := nI 0) C dX0_invert_19 (by decide) ?_
    exact J.zret C rfl dX0_invert_20 (Or.inl ⟨hp0, rfl, hI1⟩)
end Xin
end
section
section Mle
theorem bs_z {A B k : Nat} (hk : k < 24) (lB : B ≤ 65536 ^ 24) : (((dgt 65536 A k : Int) - (dgt 65536 B k : Int)) + -(bw 65536 A B k : Int)) % 65536 = (dgt 65536 (A + 65536 ^ 24 - B) k : Int) := by
  rw [dgt_sub okb16 hk lB]
  have := bw_le (b := 65536) (A := A) (B := B) (k := k)
  have := dgt_lt okb16 A k
  have := dgt_lt okb16 B k
  omega
theorem bs_c {A B k : Nat} : (((dgt 65536 A k : Int) - (dgt 65536 B k : Int)) + -(bw 65536 A B k : Int)) / 65536 = -(bw 65536 A B (k + 1) : Int) := by
  rw [bw_succ okb16]
  have := bw_le (b := 65536) (A := A) (B := B) (k := k)
  have := dgt_lt okb16 A k
  have := dgt_lt okb16 B k
  split <;> omega
theorem bs_l {A B k : Nat} : -2147483648 ≤ (((dgt 65536 A k : Int) - (dgt 65536 B k : Int)) + -(bw 65536 A B k : Int)) ∧ (((dgt 65536 A k : Int) - (dgt 65536 B k : Int)) + -(bw 65536 A B k : Int)) < 2147483648 := by
  have := bw_le (b := 65536) (A := A) (B := B) (k := k)
  have := dgt_lt okb16 A k
  have := dgt_lt okb16 B k
  omega
theorem d16 (V k : Nat) : dgt 65536 V k < 2147483648 := Nat.lt_trans (dgt_lt okb16 V k) (by decide)
theorem nI_sub (a b : Nat) : nI a - nI b = iI ((a : Int) - (b : Int)) := by rw [iI_N, iI_N, iI_sub]
theorem ge_of_dgt {b : Nat} (hb : okb b) {V W k : Nat} (h : V / b ^ (k + 1) = W / b ^ (k + 1)) (hd : dgt b W k ≤ dgt b V k) (h0 : k = 0 ∨ dgt b V k ≠ dgt b W k) : W ≤ V := by
  rcases Nat.lt_or_ge (dgt b W k) (dgt b V k) with q | q
  · exact Nat.le_of_lt (lt_of_dgt hb h.symm q)
  · have e : dgt b V k = dgt b W k := by omega
    rcases h0 with h0 | h0
    · have h2 := eq_of_dgt hb h e
      rw [h0, Nat.pow_zero, Nat.div_one, Nat.div_one] at h2
      omega
    · exact absurd e h0
set_option maxHeartbeats 4000000 in
set_option maxRecDepth 100000 in
theorem m_take {l : Launch} {D : va_G} {d dL : ClassId} {a : Nat → Nat} {f : gF} {g : gG} {it : Nat} {r : Int32} {V : Nat → Nat} (k_it : gOk 1 it) (n_it : gLen 1 it = 24) (hR : RG 65536 24 (f 1) V) : gMet l yX1_take cX1_take 4 none 0 0 D d dL 1 a [.ref (a 0), .ref (a it), .int r] f g (fun v f' g' => v = none ∧ nu 65536 24 f it (V (rg r)) f') := by
  refine gMet.of (by decide) (Nat.le_of_ble_eq_true rfl) (fun z C => ?_)
  show J z f g 0 [(0, .ref (a 0)), (1, .ref (a it)), (2, .int r)] []
  have hne : 1 ≠ it := fun e => by rw [← e] at n_it; exact absurd n_it (by decide)
  refine J.iconst (v := nI 0) C dX1_take_0 (by decide) ?_
  refine J.istore_n (lv' := [(3, .int _), (0, .ref _), (1, .ref _), (2, .int _)]) C dX1_take_1 rfl (by decide) rfl ?_
  refine J.perm (lv' := [(0, .ref _), (1, .ref _), (2, .int _), (3, .int _)]) [1, 2, 3, 0] rfl ?_
  refine J.loop (head := 2) 24 (fun k f' g' => fil f it 0 (fun j => nI (dgt 65536 (V (rg r)) j)) k f') (fun k => [(0, .ref (a 0)), (1, .ref (a it)), (2, .int r), (3, .int (nI k))]) ?_ ?_ 24 0 _ _ rfl fil.zero
  · intro f' g' hI
    obtain hI := hI
    refine J.iload_n C dX1_take_2 rfl 3 rfl ?_
    refine J.bipush (v := nI 24) C dX1_take_3 (by decide) ?_
    refine J.ncmp_ge (tgt := 30) C dX1_take_5 (by decide) (by first | omega | exact d16 _ _) (by first | omega | exact d16 _ _) (fun h => ?_) (fun h => ?_)
    · exact J.vret C dX1_take_30 ⟨rfl, hI.nu⟩
    · exact absurd h (by omega)
  · intro k f' g' hk hI ih
    obtain hI := hI
    refine J.iload_n C dX1_take_2 rfl 3 rfl ?_
    refine J.bipush (v := nI 24) C dX1_take_3 (by decide) ?_
    refine J.ncmp_ge (tgt := 30) C dX1_take_5 (by decide) (by first | omega | exact d16 _ _) (by first | omega | exact d16 _ _) (fun h => ?_) (fun h => ?_)
    · exact absurd h (by omega)
    · refine J.aload_n C dX1_take_8 rfl 1 rfl ?_
      refine J.iload_n C dX1_take_9 rfl 3 rfl ?_
      refine J.aload_n C dX1_take_10 rfl 0 rfl ?_
      refine J.get1 C 0 (by decide) q185 dX1_take_11 ?_
      refine J.iload_n C dX1_take_14 rfl 2 rfl ?_
      refine J.iconst (v := nI 3) C dX1_take_15 (by decide) ?_
      refine J.iand C dX1_take_16 ?_
      refine J.eqi (w_and3 r) ?_
      refine J.bipush (v := nI 24) C dX1_take_17 (by decide) ?_
      refine J.imul C dX1_take_19 ?_
      refine J.eqi (pk_mul _ _) ?_
      refine J.iload_n C dX1_take_20 rfl 3 rfl ?_
      refine J.iadd C dX1_take_21 ?_
      refine J.eqi (w_add _ _) ?_
      refine J.iald C (gk (by decide)) (by have := rg_lt r; show rg r * 24 + k < 96; omega) dX1_take_22 ?_
      refine J.eqi (y := nI (dgt 65536 (V (rg r)) k)) (by rw [hI.other hne]; exact hR (rg r) (rg_lt r) k hk) ?_
      refine J.fast C hI k_it (Nat.zero_add k).symm (by rw [n_it]; omega) rfl dX1_take_23 (fun f' hI => ?_)
      refine J.inc (lv' := [(3, .int _), (0, .ref _), (1, .ref _), (2, .int _)]) C dX1_take_24 3 rfl (by decide) rfl ?_
      refine J.goto (tgt := 2) C dX1_take_27 (by decide) ?_
      refine J.perm (lv' := [(0, .ref _), (1, .ref _), (2, .int _), (3, .int _)]) [1, 2, 3, 0] rfl ?_
      exact ih _ _ hI
set_option maxHeartbeats 4000000 in
set_option maxRecDepth 100000 in
theorem m_give {l : Launch} {D : va_G} {d dL : ClassId} {a : Nat → Nat} {f : gF} {g : gG} {it X : Nat} {r : Int32} {V : Nat → Nat} (k_it : gOk 1 it) (n_it : gLen 1 it = 24) (hR : RG 65536 24 (f 1) V) (hX : Rd 65536 24 (f it) X) : gMet l yX1_give cX1_give 4 none 0 0 D d dL 1 a [.ref (a 0), .int r, .ref (a it)] f g (fun v f' g' => v = none ∧ (∃ F, f' = va_up f 1 F) ∧ RG 65536 24 (f' 1) (va_up V (rg r) X)) := by
  refine gMet.of (by decide) (Nat.le_of_ble_eq_true rfl) (fun z C => ?_)
  show J z f g 0 [(0, .ref (a 0)), (1, .int r), (2, .ref (a it))] []
  have hne : 1 ≠ it := fun e => by rw [← e] at n_it; exact absurd n_it (by decide)
  refine J.iconst (v := nI 0) C dX1_give_0 (by decide) ?_
  refine J.istore_n (lv' := [(3, .int _), (0, .ref _), (1, .int _), (2, .ref _)]) C dX1_give_1 rfl (by decide) rfl ?_
  refine J.perm (lv' := [(0, .ref _), (1, .int _), (2, .ref _), (3, .int _)]) [1, 2, 3, 0] rfl ?_
  refine J.loop (head := 2) 24 (fun k f' g' => fil f 1 (rg r * 24) (fun j => f it j) k f') (fun k => [(0, .ref (a 0)), (1, .int r), (2, .ref (a it)), (3, .int (nI k))]) ?_ ?_ 24 0 _ _ rfl fil.zero
  · intro f' g' hI
    obtain hI := hI
    refine J.iload_n C dX1_give_2 rfl 3 rfl ?_
    refine J.bipush (v := nI 24) C dX1_give_3 (by decide) ?_
    refine J.ncmp_ge (tgt := 30) C dX1_give_5 (by decide) (by first | omega | exact d16 _ _) (by first | omega | exact d16 _ _) (fun h => ?_) (fun h => ?_)
    · exact J.vret C dX1_give_30 ⟨rfl, ⟨_, hI.at.2.2⟩, hR.put hX hI⟩
    · exact absurd h (by omega)
  · intro k f' g' hk hI ih
    obtain hI := hI
    refine J.iload_n C dX1_give_2 rfl 3 rfl ?_
    refine J.bipush (v := nI 24) C dX1_give_3 (by decide) ?_
    refine J.ncmp_ge (tgt := 30) C dX1_give_5 (by decide) (by first | omega | exact d16 _ _) (by first | omega | exact d16 _ _) (fun h => ?_) (fun h => ?_)
    · exact absurd h (by omega)
    · refine J.aload_n C dX1_give_8 rfl 0 rfl ?_
      refine J.get1 C 0 (by decide) q185 dX1_give_9 ?_
      refine J.iload_n C dX1_give_12 rfl 1 rfl ?_
      refine J.iconst (v := nI 3) C dX1_give_13 (by decide) ?_
      refine J.iand C dX1_give_14 ?_
      refine J.eqi (w_and3 r) ?_
      refine J.bipush (v := nI 24) C dX1_give_15 (by decide) ?_
      refine J.imul C dX1_give_17 ?_
      refine J.eqi (pk_mul _ _) ?_
      refine J.iload_n C dX1_give_18 rfl 3 rfl ?_
      refine J.iadd C dX1_give_19 ?_
      refine J.eqi (w_add _ _) ?_
      refine J.aload_n C dX1_give_20 rfl 2 rfl ?_
      refine J.iload_n C dX1_give_21 rfl 3 rfl ?_
      refine J.iald C k_it (by rw [n_it]; omega) dX1_give_22 ?_
      refine J.eqi (by rw [hI.other hne.symm]) ?_
      refine J.fast C hI (gk (by decide)) rfl (by have := rg_lt r; show rg r * 24 + k < 96; omega) rfl dX1_give_23 (fun f' hI => ?_)
      refine J.inc (lv' := [(3, .int _), (0, .ref _), (1, .int _), (2, .ref _)]) C dX1_give_24 3 rfl (by decide) rfl ?_
      refine J.goto (tgt := 2) C dX1_give_27 (by decide) ?_
      refine J.perm (lv' := [(0, .ref _), (1, .int _), (2, .ref _), (3, .int _)]) [1, 2, 3, 0] rfl ?_
      exact ih _ _ hI
set_option maxHeartbeats 4000000 in
set_option maxRecDepth 100000 in
theorem m_copy {l : Launch} {D : va_G} {d dL : ClassId} {a : Nat → Nat} {f : gF} {g : gG} {it ifr X : Nat} (k_it : gOk 1 it) (n_it : gLen 1 it = 24) (k_ifr : gOk 1 ifr) (n_ifr : gLen 1 ifr = 24) (hX : Rd 65536 24 (f ifr) X) : gMet l yX1_copy cX1_copy 4 none 0 0 D d dL 1 a [.ref (a 0), .ref (a it), .ref (a ifr)] f g (fun v f' g' => v = none ∧ nu 65536 24 f it X f') := by
  refine gMet.of (by decide) (Nat.le_of_ble_eq_true rfl) (fun z C => ?_)
  show J z f g 0 [(0, .ref (a 0)), (1, .ref (a it)), (2, .ref (a ifr))] []
  refine J.iconst (v := nI 0) C dX1_copy_0 (by decide) ?_
  refine J.istore_n (lv' := [(3, .int _), (0, .ref _), (1, .ref _), (2, .ref _)]) C dX1_copy_1 rfl (by decide) rfl ?_
  refine J.perm (lv' := [(0, .ref _), (1, .ref _), (2, .ref _), (3, .int _)]) [1, 2, 3, 0] rfl ?_
  refine J.loop (head := 2) 24 (fun k f' g' => fil f it 0 (fun j => nI (dgt 65536 X j)) k f') (fun k => [(0, .ref (a 0)), (1, .ref (a it)), (2, .ref (a ifr)), (3, .int (nI k))]) ?_ ?_ 24 0 _ _ rfl fil.zero
  · intro f' g' hI
    obtain hI := hI
    refine J.iload_n C dX1_copy_2 rfl 3 rfl ?_
    refine J.bipush (v := nI 24) C dX1_copy_3 (by decide) ?_
    refine J.ncmp_ge (tgt := 20) C dX1_copy_5 (by decide) (by first | omega | exact d16 _ _) (by first | omega | exact d16 _ _) (fun h => ?_) (fun h => ?_)
    · exact J.vret C dX1_copy_20 ⟨rfl, hI.nu⟩
    · exact absurd h (by omega)
  · intro k f' g' hk hI ih
    obtain hI := hI
    refine J.iload_n C dX1_copy_2 rfl 3 rfl ?_
    refine J.bipush (v := nI 24) C dX1_copy_3 (by decide) ?_
    refine J.ncmp_ge (tgt := 20) C dX1_copy_5 (by decide) (by first | omega | exact d16 _ _) (by first | omega | exact d16 _ _) (fun h => ?_) (fun h => ?_)
    · exact absurd h (by omega)
    · refine J.aload_n C dX1_copy_8 rfl 1 rfl ?_
      refine J.iload_n C dX1_copy_9 rfl 3 rfl ?_
      refine J.aload_n C dX1_copy_10 rfl 2 rfl ?_
      refine J.iload_n C dX1_copy_11 rfl 3 rfl ?_
      refine J.iald C k_ifr (by rw [n_ifr]; omega) dX1_copy_12 ?_
      refine J.eqi ((hI.read ifr (Nat.le_refl k)).trans (hX k hk)) ?_
      refine J.fast C hI k_it (Nat.zero_add k).symm (by rw [n_it]; omega) rfl dX1_copy_13 (fun f' hI => ?_)
      refine J.inc (lv' := [(3, .int _), (0, .ref _), (1, .ref _), (2, .ref _)]) C dX1_copy_14 3 rfl (by decide) rfl ?_
      refine J.goto (tgt := 2) C dX1_copy_17 (by decide) ?_
      refine J.perm (lv' := [(0, .ref _), (1, .ref _), (2, .ref _), (3, .int _)]) [1, 2, 3, 0] rfl ?_
      exact ih _ _ hI
set_option maxHeartbeats 4000000 in
set_option maxRecDepth 100000 in
theorem m_isZero {l : Launch} {D : va_G} {d dL : ClassId} {a : Nat → Nat} {f : gF} {g : gG} {ia A : Nat} (k_ia : gOk 1 ia) (n_ia : gLen 1 ia = 24) (hA : Rd 65536 24 (f ia) A) (lA : A < 65536 ^ 24) : gMet l yX1_isZero cX1_isZero 4 (some .boolean) 0 0 D d dL 1 a [.ref (a 0), .ref (a ia)] f g (fun v f' g' => v = some (.int (tf (A = 0))) ∧ f' = f) := by
  refine gMet.of (by decide) (Nat.le_of_ble_eq_true rfl) (fun z C => ?_)
  show J z f g 0 [(0, .ref (a 0)), (1, .ref (a ia))] []
  refine J.iconst (v := nI 1) C dX1_isZero_0 (by decide) ?_
  refine J.eqi (y := tf (A % 65536 ^ 0 = 0)) (tf_t (by rw [Nat.pow_zero, Nat.mod_one])).symm ?_
  refine J.istore_n (lv' := [(2, .int _), (0, .ref _), (1, .ref _)]) C dX1_isZero_1 rfl (by decide) rfl ?_
  refine J.iconst (v := nI 0) C dX1_isZero_2 (by decide) ?_
  refine J.istore_n (lv' := [(3, .int _), (2, .int _), (0, .ref _), (1, .ref _)]) C dX1_isZero_3 rfl (by decide) rfl ?_
  refine J.perm (lv' := [(0, .ref _), (1, .ref _), (2, .int _), (3, .int _)]) [2, 3, 1, 0] rfl ?_
  refine J.loop (head := 4) 24 (fun k f' g' => f' = f) (fun k => [(0, .ref (a 0)), (1, .ref (a ia)), (2, .int (tf (A % 65536 ^ k = 0))), (3, .int (nI k))]) ?_ ?_ 24 0 _ _ rfl rfl
  · intro f' g' hI
    obtain rfl := hI
    refine J.iload_n C dX1_isZero_4 rfl 3 rfl ?_
    refine J.bipush (v := nI 24) C dX1_isZero_5 (by decide) ?_
    refine J.ncmp_ge (tgt := 32) C dX1_isZero_7 (by decide) (by first | omega | exact d16 _ _) (by first | omega | exact d16 _ _) (fun h => ?_) (fun h => ?_)
    · refine J.iload_n C dX1_isZero_32 rfl 2 rfl ?_
      rw [Nat.mod_eq_of_lt lA]
      exact J.zret C tf_nar dX1_isZero_33 ⟨rfl, rfl⟩
    · exact absurd h (by omega)
  · intro k f' g' hk hI ih
    obtain rfl := hI
    refine J.iload_n C dX1_isZero_4 rfl 3 rfl ?_
    refine J.bipush (v := nI 24) C dX1_isZero_5 (by decide) ?_
    refine J.ncmp_ge (tgt := 32) C dX1_isZero_7 (by decide) (by first | omega | exact d16 _ _) (by first | omega | exact d16 _ _) (fun h => ?_) (fun h => ?_)
    · exact absurd h (by omega)
    · have hst : J z f' g' 25 [(0, .ref (a 0)), (1, .ref (a ia)), (2, .int (tf (A % 65536 ^ k = 0))), (3, .int (nI k))] [.int (tf (A % 65536 ^ (k + 1) = 0))] := by
        refine J.istore_n (lv' := [(2, .int _), (0, .ref _), (1, .ref _), (3, .int _)]) C dX1_isZero_25 rfl (by decide) rfl ?_
        refine J.inc (lv' := [(3, .int _), (2, .int _), (0, .ref _), (1, .ref _)]) C dX1_isZero_26 3 rfl (by decide) rfl ?_
        refine J.goto (tgt := 4) C dX1_isZero_29 (by decide) ?_
        refine J.perm (lv' := [(0, .ref _), (1, .ref _), (2, .int _), (3, .int _)]) [2, 3, 1, 0] rfl ?_
        exact ih _ _ rfl
      have hms := mod_succ 65536 A k
      have hpp := pow_pos' okb16 k
      refine J.iload_n C dX1_isZero_10 rfl 2 rfl ?_
      refine J.if_eq (tgt := 24) C dX1_isZero_11 (by decide) (fun c => ?_) (fun c => ?_)
      · have c2 : ¬ A % 65536 ^ k = 0 := fun q => absurd ((tf_t q).symm.trans c) (by decide)
        refine J.iconst (v := nI 0) C dX1_isZero_24 (by decide) ?_
        refine J.eqi (y := tf (A % 65536 ^ (k + 1) = 0)) (tf_f (by omega)).symm ?_
        exact hst
      · have c2 : A % 65536 ^ k = 0 := Classical.byContradiction fun q => c (tf_f q)
        refine J.aload_n C dX1_isZero_14 rfl 1 rfl ?_
        refine J.iload_n C dX1_isZero_15 rfl 3 rfl ?_
        refine J.iald C k_ia (by rw [n_ia]; omega) dX1_isZero_16 ?_
        refine J.eqi (hA k hk) ?_
        refine J.if_ne (tgt := 24) C dX1_isZero_17 (by decide) (fun d1 => ?_) (fun d1 => ?_)
        · have hd : dgt 65536 A k ≠ 0 := fun q => d1 (by rw [q]; rfl)
          have hm : 0 < 65536 ^ k * dgt 65536 A k := Nat.mul_pos hpp (Nat.pos_of_ne_zero hd)
          refine J.iconst (v := nI 0) C dX1_isZero_24 (by decide) ?_
          refine J.eqi (y := tf (A % 65536 ^ (k + 1) = 0)) (tf_f (by omega)).symm ?_
          exact hst
        · have hd : dgt 65536 A k = 0 := (w_inj (dgt_lt32 okb16 _ _) (by decide)).mp d1
          refine J.iconst (v := nI 1) C dX1_isZero_20 (by decide) ?_
          refine J.goto (tgt := 25) C dX1_isZero_21 (by decide) ?_
          refine J.eqi (y := tf (A % 65536 ^ (k + 1) = 0)) (tf_t (by rw [hms, hd, c2, Nat.mul_zero])).symm ?_
          exact hst
theorem fo_q {S Q : Nat} (lS : S < 2 * PP) (hQ : Q = if PP ≤ S then PP else 0) : (S + 65536 ^ 24 - Q) % 65536 ^ 24 = (S % PP) % 65536 ^ 24 ∧ Q ≤ 65536 ^ 24 := by
  have h3 := P24
  by_cases h : PP ≤ S
  · rw [if_pos h] at hQ
    rw [hQ, show S + 65536 ^ 24 - PP = (S - PP) + 65536 ^ 24 by omega, Nat.add_mod_right, Nat.mod_eq_sub_mod h, Nat.mod_eq_of_lt (show S - PP < PP by omega)]
    exact ⟨rfl, Nat.le_of_lt h3⟩
  · rw [if_neg h] at hQ
    rw [hQ, Nat.sub_zero, Nat.add_mod_right, Nat.mod_eq_of_lt (show S < PP by omega)]
    exact ⟨rfl, Nat.zero_le _⟩
theorem fo_top {S : Nat} (lS : S < 2 * PP) : dgt 65536 S 24 = S / 65536 ^ 24 ∧ S / 65536 ^ 24 ≤ 1 := by
  have h3 := P24
  have h : S / 65536 ^ 24 < 2 := by
    rw [Nat.div_lt_iff_lt_mul (by decide)]
    omega
  unfold dgt
  exact ⟨Nat.mod_eq_of_lt (by omega), by omega⟩
set_option maxHeartbeats 4000000 in
set_option maxRecDepth 100000 in
theorem m_fold {l : Launch} {D : va_G} {d dL : ClassId} {a : Nat → Nat} {f : gF} {g : gG} {it iw S : Nat} (k_it : gOk 1 it) (n_it : gLen 1 it = 24) (k_iw : gOk 1 iw) (n_iw : gLen 1 iw = 25) (hp : Rd 65536 24 (f 3) PP) (hne : 3 ≠ it) (hS : Rd 65536 25 (f iw) S) (lS : S < 2 * PP) : gMet l yX1_fold cX1_fold 7 none 0 0 D d dL 1 a [.ref (a 0), .ref (a it), .ref (a iw)] f g (fun v f' g' => v = none ∧ nu 65536 24 f it (S % PP) f') := by
  refine gMet.of (by decide) (Nat.le_of_ble_eq_true rfl) (fun z C => ?_)
  show J z f g 0 [(0, .ref (a 0)), (1, .ref (a it)), (2, .ref (a iw))] []
  have hnw : iw ≠ it := fun e => by rw [e, n_it] at n_iw; exact absurd n_iw (by decide)
  obtain ⟨hT, hT1⟩ := fo_top lS
  have tail : ∀ gS : gG, J z f gS 69 [(0, .ref (a 0)), (1, .ref (a it)), (2, .ref (a iw)), (3, .int (tf (PP ≤ S)))] [] := by
    intro gS
    obtain ⟨Q, eQ⟩ : ∃ Q, Q = if PP ≤ S then PP else 0 := ⟨_, rfl⟩
    have hQ := fo_q lS eQ
    refine J.iconst (v := nI 0) C dX1_fold_69 (by decide) ?_
    refine J.eqi (y := iI (-(bw 65536 S Q 0 : Int))) (by rw [bw_0]; rfl) ?_
    refine J.istore (lv' := [(4, .int _), (0, .ref _), (1, .ref _), (2, .ref _), (3, .int _)]) C dX1_fold_70 (by decide) rfl ?_
    refine J.iconst (v := nI 0) C dX1_fold_72 (by decide) ?_
    refine J.istore (lv' := [(5, .int _), (4, .int _), (0, .ref _), (1, .ref _), (2, .ref _), (3, .int _)]) C dX1_fold_73 (by decide) rfl ?_
    refine J.perm (lv' := [(0, .ref _), (1, .ref _), (2, .ref _), (3, .int _), (4, .int _), (5, .int _)]) [2, 3, 4, 5, 1, 0] rfl ?_
    refine J.loop (head := 75) 24 (fun k f' g' => fil f it 0 (fun j => nI (dgt 65536 (S + 65536 ^ 24 - Q) j)) k f') (fun k => [(0, .ref (a 0)), (1, .ref (a it)), (2, .ref (a iw)), (3, .int (tf (PP ≤ S))), (4, .int (iI (-(bw 65536 S Q k : Int)))), (5, .int (nI k))]) ?_ ?_ 24 0 _ _ rfl fil.zero
    · intro f' g' hF
      obtain hF := hF
      refine J.iload C dX1_fold_75 5 rfl ?_
      refine J.bipush (v := nI 24) C dX1_fold_77 (by decide) ?_
      refine J.ncmp_ge (tgt := 129) C dX1_fold_79 (by decide) (by first | omega | exact d16 _ _) (by first | omega | exact d16 _ _) (fun h => ?_) (fun h => ?_)
      · exact J.vret C dX1_fold_129 ⟨rfl, hF.nu.md okb16 hQ.1⟩
      · exact absurd h (by omega)
    · intro k f' g' hk hF ih
      obtain hF := hF
      refine J.iload C dX1_fold_75 5 rfl ?_
      refine J.bipush (v := nI 24) C dX1_fold_77 (by decide) ?_
      refine J.ncmp_ge (tgt := 129) C dX1_fold_79 (by decide) (by first | omega | exact d16 _ _) (by first | omega | exact d16 _ _) (fun h => ?_) (fun h => ?_)
      · exact absurd h (by omega)
      · have hst : J z f' g' 101 [(0, .ref (a 0)), (1, .ref (a it)), (2, .ref (a iw)), (3, .int (tf (PP ≤ S))), (4, .int (iI (-(bw 65536 S Q k : Int)))), (5, .int (nI k))] [.int (nI (dgt 65536 Q k)), .int (nI (dgt 65536 S k))] := by
          refine J.isub C dX1_fold_101 ?_
          refine J.eqi (nI_sub _ _) ?_
          refine J.iload C dX1_fold_102 4 rfl ?_
          refine J.iadd C dX1_fold_104 ?_
          refine J.eqi (iI_add _ _) ?_
          refine J.istore (lv' := [(6, .int _), (0, .ref _), (1, .ref _), (2, .ref _), (3, .int _), (4, .int _), (5, .int _)]) C dX1_fold_105 (by decide) rfl ?_
          refine J.aload_n C dX1_fold_107 rfl 2 rfl ?_
          refine J.iload C dX1_fold_108 6 rfl ?_
          refine J.iload C dX1_fold_110 0 rfl ?_
          refine J.ldc C q183 dX1_fold_112 ?_
          refine J.eqi (y := nI 65535) rfl ?_
          refine J.iand C dX1_fold_114 ?_
          refine J.eqi (iI_and16 (bs_z hk hQ.2)) ?_
          refine J.fast C hF k_it (Nat.zero_add k).symm (by rw [n_it]; omega) rfl dX1_fold_115 (fun f' hF => ?_)
          refine J.iload C dX1_fold_116 0 rfl ?_
          refine J.bipush (v := nI 16) C dX1_fold_118 (by decide) ?_
          refine J.ishr C dX1_fold_120 ?_
          refine J.eqi (iI_shr16 bs_l.1 bs_l.2) ?_
          refine J.eqi (congrArg iI bs_c) ?_
          refine J.istore (lv' := [(4, .int _), (6, .int _), (0, .ref _), (1, .ref _), (2, .ref _), (3, .int _), (5, .int _)]) C dX1_fold_121 (by decide) rfl ?_
          refine J.inc (lv' := [(5, .int _), (4, .int _), (6, .int _), (0, .ref _), (1, .ref _), (2, .ref _), (3, .int _)]) C dX1_fold_123 6 rfl (by decide) rfl ?_
          refine J.goto (tgt := 75) C dX1_fold_126 (by decide) ?_
          refine J.perm (lv' := [(0, .ref _), (1, .ref _), (2, .ref _), (3, .int _), (4, .int _), (5, .int _)]) [3, 4, 5, 6, 1, 0] rfl ?_
          exact ih _ _ hF
        refine J.aload_n C dX1_fold_82 rfl 2 rfl ?_
        refine J.iload C dX1_fold_83 5 rfl ?_
        refine J.iald C k_iw (by rw [n_iw]; omega) dX1_fold_85 ?_
        refine J.eqi (y := nI (dgt 65536 S k)) (by rw [hF.other hnw]; exact hS k (by omega)) ?_
        refine J.iload_n C dX1_fold_86 rfl 3 rfl ?_
        refine J.if_eq (tgt := 100) C dX1_fold_87 (by decide) (fun c => ?_) (fun c => ?_)
        · have c2 : ¬ PP ≤ S := fun q => absurd ((tf_t q).symm.trans c) (by decide)
          refine J.iconst (v := nI 0) C dX1_fold_100 (by decide) ?_
          refine J.eqi (y := nI (dgt 65536 Q k)) (by rw [eQ, if_neg c2, dgt_0]) ?_
          exact hst
        · have c2 : PP ≤ S := Classical.byContradiction fun q => c (tf_f q)
          refine J.aload_n C dX1_fold_90 rfl 0 rfl ?_
          refine J.get1 C 2 (by decide) q187 dX1_fold_91 ?_
          refine J.iload C dX1_fold_94 5 rfl ?_
          refine J.iald C (gk (by decide)) (by show _ < 24; omega) dX1_fold_96 ?_
          refine J.eqi (y := nI (dgt 65536 PP k)) (by rw [hF.other hne]; exact hp k hk) ?_
          refine J.goto (tgt := 101) C dX1_fold_97 (by decide) ?_
          refine J.eqi (y := nI (dgt 65536 Q k)) (by rw [eQ, if_pos c2]) ?_
          exact hst
  have cmp : ∀ (gS : gG) (k : Nat), k ≤ 23 → S / 65536 ^ (k + 1) = PP / 65536 ^ (k + 1) → (k = 0 ∨ dgt 65536 S k ≠ dgt 65536 PP k) → J z f gS 49 [(0, .ref (a 0)), (1, .ref (a it)), (2, .ref (a iw)), (4, .int (nI k))] [] := by
    intro gS k hk hE h0
    refine J.aload_n C dX1_fold_49 rfl 2 rfl ?_
    refine J.iload C dX1_fold_50 3 rfl ?_
    refine J.iald C k_iw (by rw [n_iw]; omega) dX1_fold_52 ?_
    refine J.eqi (hS k (by omega)) ?_
    refine J.aload_n C dX1_fold_53 rfl 0 rfl ?_
    refine J.get1 C 2 (by decide) q187 dX1_fold_54 ?_
    refine J.iload C dX1_fold_57 3 rfl ?_
    refine J.iald C (gk (by decide)) (by show _ < 24; omega) dX1_fold_59 ?_
    refine J.eqi (hp k (by omega)) ?_
    refine J.ncmp_lt (tgt := 67) C dX1_fold_60 (by decide) (by first | omega | exact d16 _ _) (by first | omega | exact d16 _ _) (fun c => ?_) (fun c => ?_)
    · refine J.iconst (v := nI 0) C dX1_fold_67 (by decide) ?_
      refine J.eqi (y := tf (PP ≤ S)) (tf_f (by have := lt_of_dgt okb16 hE c; omega)).symm ?_
      refine J.istore_n (lv' := [(3, .int _), (0, .ref _), (1, .ref _), (2, .ref _), (4, .int _)]) C dX1_fold_68 rfl (by decide) rfl ?_
      refine J.perm (lv' := [(0, .ref _), (1, .ref _), (2, .ref _), (3, .int _)]) [1, 2, 3, 0] rfl ?_
      exact tail _
    · refine J.iconst (v := nI 1) C dX1_fold_63 (by decide) ?_
      refine J.goto (tgt := 68) C dX1_fold_64 (by decide) ?_
      refine J.eqi (y := tf (PP ≤ S)) (tf_t (ge_of_dgt okb16 hE c h0)).symm ?_
      refine J.istore_n (lv' := [(3, .int _), (0, .ref _), (1, .ref _), (2, .ref _), (4, .int _)]) C dX1_fold_68 rfl (by decide) rfl ?_
      refine J.perm (lv' := [(0, .ref _), (1, .ref _), (2, .ref _), (3, .int _)]) [1, 2, 3, 0] rfl ?_
      exact tail _
  have mid : ∀ gS : gG, J z f gS 12 [(0, .ref (a 0)), (1, .ref (a it)), (2, .ref (a iw))] [.int (tf (65536 ^ 24 ≤ S))] := by
    intro gS
    refine J.istore_n (lv' := [(3, .int _), (0, .ref _), (1, .ref _), (2, .ref _)]) C dX1_fold_12 rfl (by decide) rfl ?_
    refine J.iload_n C dX1_fold_13 rfl 0 rfl ?_
    refine J.if_ne (tgt := 69) C dX1_fold_14 (by decide) (fun c => ?_) (fun c => ?_)
    · have c2 : 65536 ^ 24 ≤ S := Classical.byContradiction fun q => c (tf_f q)
      refine J.perm (lv' := [(0, .ref _), (1, .ref _), (2, .ref _), (3, .int _)]) [1, 2, 3, 0] rfl ?_
      rw [tf_t c2, ← tf_t (show PP ≤ S by have := P24; omega)]
      exact tail _
    · have c2 : S < 65536 ^ 24 := Classical.byContradiction fun q => absurd ((tf_t (Nat.le_of_not_lt q)).symm.trans c) (by decide)
      refine J.bipush (v := nI 23) C dX1_fold_17 (by decide) ?_
      refine J.istore (lv' := [(4, .int _), (3, .int _), (0, .ref _), (1, .ref _), (2, .ref _)]) C dX1_fold_19 (by decide) rfl ?_
      refine J.perm (lv' := [(0, .ref _), (1, .ref _), (2, .ref _), (4, .int _)]) [2, 3, 4, 0] rfl ?_
      refine J.loopM (head := 21) (fun k : Nat => k) (fun k f' g' => f = f' ∧ k ≤ 23 ∧ S / 65536 ^ (k + 1) = PP / 65536 ^ (k + 1)) (fun k => [(0, .ref (a 0)), (1, .ref (a it)), (2, .ref (a iw)), (4, .int (nI k))]) ?_ 24 23 _ _ (by decide) ⟨rfl, Nat.le_refl _, by rw [Nat.div_eq_of_lt c2, Nat.div_eq_of_lt P24]⟩
      intro k f1 g1 hQ ih
      obtain ⟨rfl, hk, hE⟩ := hQ
      cases k with
      | zero =>
        refine J.iload C dX1_fold_21 3 rfl ?_
        refine J.if_le (tgt := 49) C dX1_fold_23 (by decide) (fun c3 => ?_) (fun c3 => ?_)
        · exact cmp _ 0 hk hE (Or.inl rfl)
        · exact absurd (by decide) c3
      | succ k =>
        refine J.iload C dX1_fold_21 3 rfl ?_
        refine J.if_le (tgt := 49) C dX1_fold_23 (by decide) (fun c3 => ?_) (fun c3 => ?_)
        · exact absurd c3 (nI_nle (by omega) (by omega))
        · refine J.aload_n C dX1_fold_26 rfl 2 rfl ?_
          refine J.iload C dX1_fold_27 3 rfl ?_
          refine J.iald C k_iw (by rw [n_iw]; omega) dX1_fold_29 ?_
          refine J.eqi (hS (k + 1) (by omega)) ?_
          refine J.aload_n C dX1_fold_30 rfl 0 rfl ?_
          refine J.get1 C 2 (by decide) q187 dX1_fold_31 ?_
          refine J.iload C dX1_fold_34 3 rfl ?_
          refine J.iald C (gk (by decide)) (by show _ < 24; omega) dX1_fold_36 ?_
          refine J.eqi (hp (k + 1) (by omega)) ?_
          refine J.icmp_ne (tgt := 49) C dX1_fold_37 (by decide) (fun c4 => ?_) (fun c4 => ?_)
          · exact cmp _ (k + 1) hk hE (Or.inr fun q => c4 (by rw [q]))
          · refine J.iload C dX1_fold_40 3 rfl ?_
            refine J.iconst (v := nI 1) C dX1_fold_42 (by decide) ?_
            refine J.isub C dX1_fold_43 ?_
            refine J.eqi (nI_pred k) ?_
            refine J.istore (lv' := [(4, .int _), (0, .ref _), (1, .ref _), (2, .ref _)]) C dX1_fold_44 (by decide) rfl ?_
            refine J.goto (tgt := 21) C dX1_fold_46 (by decide) ?_
            refine J.perm (lv' := [(0, .ref _), (1, .ref _), (2, .ref _), (4, .int _)]) [1, 2, 3, 0] rfl ?_
            exact ih k _ _ ⟨rfl, by omega, eq_of_dgt okb16 hE ((w_inj (dgt_lt32 okb16 _ _) (dgt_lt32 okb16 _ _)).mp c4)⟩ (Nat.lt_succ_self k)
  refine J.aload_n C dX1_fold_0 rfl 2 rfl ?_
  refine J.bipush (v := nI 24) C dX1_fold_1 (by decide) ?_
  refine J.iald C k_iw (by rw [n_iw]; omega) dX1_fold_3 ?_
  refine J.eqi (hS 24 (by decide)) ?_
  refine J.if_eq (tgt := 11) C dX1_fold_4 (by decide) (fun c => ?_) (fun c => ?_)
  · have c2 : S / 65536 ^ 24 = 0 := by rw [← hT]; exact (w_inj (dgt_lt32 okb16 _ _) (by decide)).mp c
    refine J.iconst (v := nI 0) C dX1_fold_11 (by decide) ?_
    refine J.eqi (y := tf (65536 ^ 24 ≤ S)) (tf_f (fun q => ?_)).symm ?_
    · have := (Nat.le_div_iff_mul_le (show 0 < 65536 ^ 24 by decide)).mpr (show 1 * 65536 ^ 24 ≤ S by omega)
      omega
    · exact mid _
  · refine J.iconst (v := nI 1) C dX1_fold_7 (by decide) ?_
    refine J.goto (tgt := 12) C dX1_fold_8 (by decide) ?_
    refine J.eqi (y := tf (65536 ^ 24 ≤ S)) (tf_t (Classical.byContradiction fun q => c ?_)).symm ?_
    · rw [hT, Nat.div_eq_of_lt (by omega)]; rfl
    · exact mid _
end Mle
end
section
section Mmi
theorem cs_b {A B k : Nat} : dgt 65536 A k + dgt 65536 B k + cr 65536 A B k < 2147483648 := by
  have := cr_le okb16 A B k
  have := dgt_lt okb16 A k
  have := dgt_lt okb16 B k
  omega
theorem cs_d {A B k : Nat} : nI (dgt 65536 A k + dgt 65536 B k + cr 65536 A B k) &&& nI 65535 = nI (dgt 65536 (A + B) k) := by
  rw [w_and (m := 65535) 16 (Nat.lt_trans cs_b (by decide)) rfl (by decide), ← dgt_add okb16, Nat.add_comm _ (cr 65536 A B k)]
theorem cs_c {A B k : Nat} : nI (dgt 65536 A k + dgt 65536 B k + cr 65536 A B k) >>> (nI 16 &&& 31) = nI (cr 65536 A B (k + 1)) := by
  rw [pk_shrN cs_b _ 16 (by decide +kernel), ← cr_succ okb16, Nat.add_comm _ (cr 65536 A B k)]
set_option maxHeartbeats 4000000 in
set_option maxRecDepth 100000 in
theorem m_plus {l : Launch} {D : va_G} {d dL : ClassId} {a : Nat → Nat} {f : gF} {g : gG} {it ia ib A B : Nat} (k_it : gOk 1 it) (n_it : gLen 1 it = 24) (k_ia : gOk 1 ia) (n_ia : gLen 1 ia = 24) (k_ib : gOk 1 ib) (n_ib : gLen 1 ib = 24) (hp : Rd 65536 24 (f 3) PP) (hne : 3 ≠ it) (hA : Rd 65536 24 (f ia) A) (hB : Rd 65536 24 (f ib) B) (lA : A < PP) (lB : B < PP) : gMet l yX1_plus cX1_plus 7 none 1 26 D d dL 1 a [.ref (a 0), .ref (a it), .ref (a ia), .ref (a ib)] f g (fun v f' g' => v = none ∧ (∀ j, j ≠ 5 → j ≠ it → f' j = f j) ∧ Rd 65536 24 (f' it) ((A + B) % PP)) := by
  refine gMet.of (by decide) (Nat.le_of_ble_eq_true rfl) (fun z C => ?_)
  show J z f g 0 [(0, .ref (a 0)), (1, .ref (a it)), (2, .ref (a ia)), (3, .ref (a ib))] []
  refine J.iconst (v := nI 0) C dX1_plus_0 (by decide) ?_
  refine J.eqi (y := nI (cr 65536 A B 0)) (by rw [cr_0]) ?_
  refine J.istore (lv' := [(4, .int _), (0, .ref _), (1, .ref _), (2, .ref _), (3, .ref _)]) C dX1_plus_1 (by decide) rfl ?_
  refine J.iconst (v := nI 0) C dX1_plus_3 (by decide) ?_
  refine J.istore (lv' := [(5, .int _), (4, .int _), (0, .ref _), (1, .ref _), (2, .ref _), (3, .ref _)]) C dX1_plus_4 (by decide) rfl ?_
  refine J.perm (lv' := [(0, .ref _), (1, .ref _), (2, .ref _), (3, .ref _), (4, .int _), (5, .int _)]) [2, 3, 4, 5, 1, 0] rfl ?_
  have hS : A + B < 2 * PP := by omega
  have hT : nI (cr 65536 A B 24) = nI (dgt 65536 (A + B) 24) := by rw [(fo_top hS).1, cr_top (Nat.lt_trans lA P24) (Nat.lt_trans lB P24)]
  have h5t : it ≠ 5 := fun e => by rw [e] at n_it; exact absurd n_it (by decide)
  refine J.loop (head := 6) 24 (fun k f' g' => fil f 5 0 (fun j => nI (dgt 65536 (A + B) j)) k f') (fun k => [(0, .ref (a 0)), (1, .ref (a it)), (2, .ref (a ia)), (3, .ref (a ib)), (4, .int (nI (cr 65536 A B k))), (5, .int (nI k))]) ?_ ?_ 24 0 _ _ rfl fil.zero
  · intro f' g' hI
    obtain hI := hI
    refine J.iload C dX1_plus_6 5 rfl ?_
    refine J.bipush (v := nI 24) C dX1_plus_8 (by decide) ?_
    refine J.ncmp_ge (tgt := 52) C dX1_plus_10 (by decide) (by first | omega | exact d16 _ _) (by first | omega | exact d16 _ _) (fun h => ?_) (fun h => ?_)
    · refine J.aload_n C dX1_plus_52 rfl 0 rfl ?_
      refine J.get1 C 4 (by decide) q189 dX1_plus_53 ?_
      refine J.bipush (v := nI 24) C dX1_plus_56 (by decide) ?_
      refine J.iload C dX1_plus_58 4 rfl ?_
      refine J.fast C hI (gk (by decide)) (Nat.zero_add 24).symm (by show _ < 25; omega) hT dX1_plus_60 (fun f' hI => ?_)
      refine J.aload_n C dX1_plus_61 rfl 0 rfl ?_
      refine J.aload_n C dX1_plus_62 rfl 1 rfl ?_
      refine J.aload_n C dX1_plus_63 rfl 0 rfl ?_
      refine J.get1 C 4 (by decide) q189 dX1_plus_64 ?_
      have hp1 : Rd 65536 24 (f' 3) PP := by rw [hI.other (by decide)]; exact hp
      refine J.callV (rest := []) C (m_fold k_it n_it (gk (by decide)) rfl hp1 hne hI.rd hS) _ rfl q231 q233 qs8 q19 q234 (by show _ = _ ∧ _ ≠ _ ∧ _ ≠ _ ∧ _ = some 2; decide +kernel) ⟨by decide, by decide⟩ rfl (Nat.le_of_ble_eq_true rfl) dX1_plus_67 (fun v f2 g2 hR => ?_)
      obtain ⟨rfl, h2⟩ := hR
      refine J.eqs (st' := []) rfl ?_
      exact J.vret C dX1_plus_70 ⟨rfl, fun j h5 hj => by rw [h2.ne hj, hI.other h5], h2.2⟩
    · exact absurd h (by omega)
  · intro k f' g' hk hI ih
    obtain hI := hI
    refine J.iload C dX1_plus_6 5 rfl ?_
    refine J.bipush (v := nI 24) C dX1_plus_8 (by decide) ?_
    refine J.ncmp_ge (tgt := 52) C dX1_plus_10 (by decide) (by first | omega | exact d16 _ _) (by first | omega | exact d16 _ _) (fun h => ?_) (fun h => ?_)
    · exact absurd h (by omega)
    · refine J.aload_n C dX1_plus_13 rfl 2 rfl ?_
      refine J.iload C dX1_plus_14 5 rfl ?_
      refine J.iald C k_ia (by rw [n_ia]; omega) dX1_plus_16 ?_
      refine J.eqi ((hI.read ia (Nat.le_refl k)).trans (hA k hk)) ?_
      refine J.aload_n C dX1_plus_17 rfl 3 rfl ?_
      refine J.iload C dX1_plus_18 5 rfl ?_
      refine J.iald C k_ib (by rw [n_ib]; omega) dX1_plus_20 ?_
      refine J.eqi ((hI.read ib (Nat.le_refl k)).trans (hB k hk)) ?_
      refine J.iadd C dX1_plus_21 ?_
      refine J.eqi (w_add _ _) ?_
      refine J.iload C dX1_plus_22 4 rfl ?_
      refine J.iadd C dX1_plus_24 ?_
      refine J.eqi (w_add _ _) ?_
      refine J.istore (lv' := [(6, .int _), (0, .ref _), (1, .ref _), (2, .ref _), (3, .ref _), (4, .int _), (5, .int _)]) C dX1_plus_25 (by decide) rfl ?_
      refine J.aload_n C dX1_plus_27 rfl 1 rfl ?_
      refine J.get1 C 4 (by decide) q189 dX1_plus_28 ?_
      refine J.iload C dX1_plus_31 6 rfl ?_
      refine J.iload C dX1_plus_33 0 rfl ?_
      refine J.ldc C q183 dX1_plus_35 ?_
      refine J.eqi (y := nI 65535) rfl ?_
      refine J.iand C dX1_plus_37 ?_
      refine J.eqi cs_d ?_
      refine J.fast C hI (gk (by decide)) (Nat.zero_add k).symm (by show _ < 25; omega) rfl dX1_plus_38 (fun f' hI => ?_)
      refine J.iload C dX1_plus_39 0 rfl ?_
      refine J.bipush (v := nI 16) C dX1_plus_41 (by decide) ?_
      refine J.ishr C dX1_plus_43 ?_
      refine J.eqi cs_c ?_
      refine J.istore (lv' := [(4, .int _), (6, .int _), (0, .ref _), (1, .ref _), (2, .ref _), (3, .ref _), (5, .int _)]) C dX1_plus_44 (by decide) rfl ?_
      refine J.inc (lv' := [(5, .int _), (4, .int _), (6, .int _), (0, .ref _), (1, .ref _), (2, .ref _), (3, .ref _)]) C dX1_plus_46 6 rfl (by decide) rfl ?_
      refine J.goto (tgt := 6) C dX1_plus_49 (by decide) ?_
      refine J.perm (lv' := [(0, .ref _), (1, .ref _), (2, .ref _), (3, .ref _), (4, .int _), (5, .int _)]) [3, 4, 5, 6, 1, 0] rfl ?_
      exact ih _ _ hI
theorem mi_q {A : Nat} (h : ¬ A = 0) (lA : A < PP) : (PP + 65536 ^ 24 - A) % 65536 ^ 24 = ((PP - A) % PP) % 65536 ^ 24 := by
  rw [show PP + 65536 ^ 24 - A = (PP - A) + 65536 ^ 24 by omega, Nat.add_mod_right, Nat.mod_eq_of_lt (show PP - A < PP by omega)]
set_option maxHeartbeats 4000000 in
set_option maxRecDepth 100000 in
theorem m_minus {l : Launch} {D : va_G} {d dL : ClassId} {a : Nat → Nat} {f : gF} {g : gG} {it ia A : Nat} (k_it : gOk 1 it) (n_it : gLen 1 it = 24) (k_ia : gOk 1 ia) (n_ia : gLen 1 ia = 24) (hp : Rd 65536 24 (f 3) PP) (hne : 3 ≠ it) (hA : Rd 65536 24 (f ia) A) (lA : A < PP) : gMet l yX1_minus cX1_minus 6 none 1 23 D d dL 1 a [.ref (a 0), .ref (a it), .ref (a ia)] f g (fun v f' g' => v = none ∧ nu 65536 24 f it ((PP - A) % PP) f') := by
  refine gMet.of (by decide) (Nat.le_of_ble_eq_true rfl) (fun z C => ?_)
  show J z f g 0 [(0, .ref (a 0)), (1, .ref (a it)), (2, .ref (a ia))] []
  refine J.aload_n C dX1_minus_0 rfl 0 rfl ?_
  refine J.aload_n C dX1_minus_1 rfl 2 rfl ?_
  refine J.callV (rest := []) C (m_isZero k_ia n_ia hA (Nat.lt_trans lA P24)) _ rfl q263 q265 qs13 q19 q266 (by show _ = _ ∧ _ ≠ _ ∧ _ ≠ _ ∧ _ = some 1; decide +kernel) ⟨by decide, by decide⟩ rfl (Nat.le_of_ble_eq_true rfl) dX1_minus_2 (fun v f1 g1 hR => ?_)
  obtain ⟨rfl, e1⟩ := hR
  obtain rfl := e1.symm
  refine J.eqs (st' := [.int _]) rfl ?_
  refine J.if_eq (tgt := 29) C dX1_minus_5 (by decide) (fun c => ?_) (fun c => ?_)
  · have c2 : ¬ A = 0 := fun q => absurd ((tf_t q).symm.trans c) (by decide)
    refine J.iconst (v := nI 0) C dX1_minus_29 (by decide) ?_
    refine J.eqi (y := iI (-(bw 65536 PP A 0 : Int))) (by rw [bw_0]; rfl) ?_
    refine J.istore_n (lv' := [(3, .int _), (0, .ref _), (1, .ref _), (2, .ref _)]) C dX1_minus_30 rfl (by decide) rfl ?_
    refine J.iconst (v := nI 0) C dX1_minus_31 (by decide) ?_
    refine J.istore (lv' := [(4, .int _), (3, .int _), (0, .ref _), (1, .ref _), (2, .ref _)]) C dX1_minus_32 (by decide) rfl ?_
    refine J.perm (lv' := [(0, .ref _), (1, .ref _), (2, .ref _), (3, .int _), (4, .int _)]) [2, 3, 4, 1, 0] rfl ?_
    refine J.loop (head := 34) 24 (fun k f' g' => fil f it 0 (fun j => nI (dgt 65536 (PP + 65536 ^ 24 - A) j)) k f') (fun k => [(0, .ref (a 0)), (1, .ref (a it)), (2, .ref (a ia)), (3, .int (iI (-(bw 65536 PP A k : Int)))), (4, .int (nI k))]) ?_ ?_ 24 0 _ _ rfl fil.zero
    · intro f' g' hI
      obtain hI := hI
      refine J.iload C dX1_minus_34 4 rfl ?_
      refine J.bipush (v := nI 24) C dX1_minus_36 (by decide) ?_
      refine J.ncmp_ge (tgt := 78) C dX1_minus_38 (by decide) (by first | omega | exact d16 _ _) (by first | omega | exact d16 _ _) (fun h => ?_) (fun h => ?_)
      · exact J.vret C dX1_minus_78 ⟨rfl, hI.nu.md okb16 (mi_q c2 lA)⟩
      · exact absurd h (by omega)
    · intro k f' g' hk hI ih
      obtain hI := hI
      refine J.iload C dX1_minus_34 4 rfl ?_
      refine J.bipush (v := nI 24) C dX1_minus_36 (by decide) ?_
      refine J.ncmp_ge (tgt := 78) C dX1_minus_38 (by decide) (by first | omega | exact d16 _ _) (by first | omega | exact d16 _ _) (fun h => ?_) (fun h => ?_)
      · exact absurd h (by omega)
      · refine J.aload_n C dX1_minus_41 rfl 0 rfl ?_
        refine J.get1 C 2 (by decide) q187 dX1_minus_42 ?_
        refine J.iload C dX1_minus_45 4 rfl ?_
        refine J.iald C (gk (by decide)) (by show _ < 24; omega) dX1_minus_47 ?_
        refine J.eqi (y := nI (dgt 65536 PP k)) (by rw [hI.other hne]; exact hp k hk) ?_
        refine J.aload_n C dX1_minus_48 rfl 2 rfl ?_
        refine J.iload C dX1_minus_49 4 rfl ?_
        refine J.iald C k_ia (by rw [n_ia]; omega) dX1_minus_51 ?_
        refine J.eqi ((hI.read ia (Nat.le_refl k)).trans (hA k hk)) ?_
        refine J.isub C dX1_minus_52 ?_
        refine J.eqi (nI_sub _ _) ?_
        refine J.iload_n C dX1_minus_53 rfl 3 rfl ?_
        refine J.iadd C dX1_minus_54 ?_
        refine J.eqi (iI_add _ _) ?_
        refine J.istore (lv' := [(5, .int _), (0, .ref _), (1, .ref _), (2, .ref _), (3, .int _), (4, .int _)]) C dX1_minus_55 (by decide) rfl ?_
        refine J.aload_n C dX1_minus_57 rfl 2 rfl ?_
        refine J.iload C dX1_minus_58 5 rfl ?_
        refine J.iload C dX1_minus_60 0 rfl ?_
        refine J.ldc C q183 dX1_minus_62 ?_
        refine J.eqi (y := nI 65535) rfl ?_
        refine J.iand C dX1_minus_64 ?_
        refine J.eqi (iI_and16 (bs_z hk (Nat.le_of_lt (Nat.lt_trans lA P24)))) ?_
        refine J.fast C hI k_it (Nat.zero_add k).symm (by rw [n_it]; omega) rfl dX1_minus_65 (fun f' hI => ?_)
        refine J.iload C dX1_minus_66 0 rfl ?_
        refine J.bipush (v := nI 16) C dX1_minus_68 (by decide) ?_
        refine J.ishr C dX1_minus_70 ?_
        refine J.eqi (iI_shr16 bs_l.1 bs_l.2) ?_
        refine J.eqi (congrArg iI bs_c) ?_
        refine J.istore_n (lv' := [(3, .int _), (5, .int _), (0, .ref _), (1, .ref _), (2, .ref _), (4, .int _)]) C dX1_minus_71 rfl (by decide) rfl ?_
        refine J.inc (lv' := [(4, .int _), (3, .int _), (5, .int _), (0, .ref _), (1, .ref _), (2, .ref _)]) C dX1_minus_72 5 rfl (by decide) rfl ?_
        refine J.goto (tgt := 34) C dX1_minus_75 (by decide) ?_
        refine J.perm (lv' := [(0, .ref _), (1, .ref _), (2, .ref _), (3, .int _), (4, .int _)]) [3, 4, 5, 1, 0] rfl ?_
        exact ih _ _ hI
  · have c2 : A = 0 := Classical.byContradiction fun q => c (tf_f q)
    refine J.iconst (v := nI 0) C dX1_minus_8 (by decide) ?_
    refine J.istore_n (lv' := [(3, .int _), (0, .ref _), (1, .ref _), (2, .ref _)]) C dX1_minus_9 rfl (by decide) rfl ?_
    refine J.perm (lv' := [(0, .ref _), (1, .ref _), (2, .ref _), (3, .int _)]) [1, 2, 3, 0] rfl ?_
    refine J.loop (head := 10) 24 (fun k f' g' => fil f it 0 (fun j => nI (dgt 65536 0 j)) k f') (fun k => [(0, .ref (a 0)), (1, .ref (a it)), (2, .ref (a ia)), (3, .int (nI k))]) ?_ ?_ 24 0 _ _ rfl fil.zero
    · intro f' g' hI
      obtain hI := hI
      refine J.iload_n C dX1_minus_10 rfl 3 rfl ?_
      refine J.bipush (v := nI 24) C dX1_minus_11 (by decide) ?_
      refine J.ncmp_ge (tgt := 26) C dX1_minus_13 (by decide) (by first | omega | exact d16 _ _) (by first | omega | exact d16 _ _) (fun h => ?_) (fun h => ?_)
      · refine J.goto (tgt := 78) C dX1_minus_26 (by decide) ?_
        exact J.vret C dX1_minus_78 ⟨rfl, hI.nu.val (by rw [c2, Nat.sub_zero, Nat.mod_self])⟩
      · exact absurd h (by omega)
    · intro k f' g' hk hI ih
      obtain hI := hI
      refine J.iload_n C dX1_minus_10 rfl 3 rfl ?_
      refine J.bipush (v := nI 24) C dX1_minus_11 (by decide) ?_
      refine J.ncmp_ge (tgt := 26) C dX1_minus_13 (by decide) (by first | omega | exact d16 _ _) (by first | omega | exact d16 _ _) (fun h => ?_) (fun h => ?_)
      · exact absurd h (by omega)
      · refine J.aload_n C dX1_minus_16 rfl 1 rfl ?_
        refine J.iload_n C dX1_minus_17 rfl 3 rfl ?_
        refine J.iconst (v := nI 0) C dX1_minus_18 (by decide) ?_
        refine J.fast C hI k_it (Nat.zero_add k).symm (by rw [n_it]; omega) (by rw [dgt_0]) dX1_minus_19 (fun f' hI => ?_)
        refine J.inc (lv' := [(3, .int _), (0, .ref _), (1, .ref _), (2, .ref _)]) C dX1_minus_20 3 rfl (by decide) rfl ?_
        refine J.goto (tgt := 10) C dX1_minus_23 (by decide) ?_
        refine J.perm (lv' := [(0, .ref _), (1, .ref _), (2, .ref _), (3, .int _)]) [1, 2, 3, 0] rfl ?_
        exact ih _ _ hI
theorem s_l' : ∀ n, n < 32 → ((nI n &&& 31).toBitVec.smod 32).toNat = n := by decide +kernel
theorem ti_bit {B i : Nat} : dgt 65536 B (i / 16) / 2 ^ (i % 16) % 2 = B / 2 ^ i % 2 := by
  unfold dgt
  have h16 : i % 16 < 16 := Nat.mod_lt _ (by decide)
  have e : (65536 : Nat) = 2 ^ (i % 16) * (2 * 2 ^ (15 - i % 16)) := by
    rw [← Nat.pow_succ', ← Nat.pow_add, show i % 16 + (15 - i % 16).succ = 16 by omega]
  have e2 : ∀ Y : Nat, Y % 65536 / 2 ^ (i % 16) % 2 = Y / 2 ^ (i % 16) % 2 := by
    intro Y
    conv => lhs; rw [e]
    rw [Nat.mod_mul_right_div_self]
    exact Nat.mod_mod_of_dvd _ ⟨_, rfl⟩
  rw [e2, Nat.div_div_eq_div_mul, show (65536 : Nat) = 2 ^ 16 by decide, ← Nat.pow_mul, ← Nat.pow_add, show 16 * (i / 16) + i % 16 = i by omega]
theorem ti_step {B i : Nat} : B / 2 ^ i = 2 * (B / 2 ^ (i + 1)) + B / 2 ^ i % 2 := by
  rw [Nat.pow_succ, ← Nat.div_div_eq_div_mul]
  omega
theorem ti_0 {A B i Z : Nat} (hZ : Z = (A * (B / 2 ^ (i + 1))) % PP) (hb : B / 2 ^ i % 2 = 0) : (Z + Z) % PP = (A * (B / 2 ^ i)) % PP := by
  rw [ti_step (B := B) (i := i), hb, hZ, ← Nat.add_mod]
  show _ = (A * (2 * (B / 2 ^ (i + 1)))) % PP
  rw [Nat.mul_left_comm, Nat.two_mul]
theorem ti_1 {A B i Z : Nat} (hZ : Z = (A * (B / 2 ^ (i + 1))) % PP) (hb : B / 2 ^ i % 2 = 1) : ((Z + Z) % PP + A) % PP = (A * (B / 2 ^ i)) % PP := by
  rw [ti_step (B := B) (i := i), hb, hZ, ← Nat.add_mod, Nat.mod_add_mod, Nat.mul_add, Nat.mul_one, Nat.mul_left_comm, Nat.two_mul]
set_option maxHeartbeats 4000000 in
set_option maxRecDepth 100000 in
theorem m_times {l : Launch} {D : va_G} {d dL : ClassId} {a : Nat → Nat} {f : gF} {g : gG} {ia ib A B : Nat} (k_ia : gOk 1 ia) (n_ia : gLen 1 ia = 24) (k_ib : gOk 1 ib) (n_ib : gLen 1 ib = 24) (h3a : ia ≠ 8) (h3b : ib ≠ 8) (hp : Rd 65536 24 (f 3) PP) (hA : Rd 65536 24 (f ia) A) (hB : Rd 65536 24 (f ib) B) (lA : A < PP) (lB : B < PP) : gMet l yX1_times cX1_times 4 none 2 52 D d dL 1 a [.ref (a 0), .ref (a ia), .ref (a ib)] f g (fun v f' g' => v = none ∧ (∀ j, j ≠ 5 → j ≠ 8 → f' j = f j) ∧ Rd 65536 24 (f' 8) ((A * B) % PP)) := by
  refine gMet.of (by decide) (Nat.le_of_ble_eq_true rfl) (fun z C => ?_)
  show J z f g 0 [(0, .ref (a 0)), (1, .ref (a ia)), (2, .ref (a ib))] []
  have h5b : ib ≠ 5 := fun e => by rw [e] at n_ib; exact absurd n_ib (by decide)
  have h5a : ia ≠ 5 := fun e => by rw [e] at n_ia; exact absurd n_ia (by decide)
  refine J.iconst (v := nI 0) C dX1_times_0 (by decide) ?_
  refine J.istore_n (lv' := [(3, .int _), (0, .ref _), (1, .ref _), (2, .ref _)]) C dX1_times_1 rfl (by decide) rfl ?_
  refine J.perm (lv' := [(0, .ref _), (1, .ref _), (2, .ref _), (3, .int _)]) [1, 2, 3, 0] rfl ?_
  refine J.loop (head := 2) 24 (fun k f' g' => fil f 8 0 (fun _ => nI 0) k f') (fun k => [(0, .ref (a 0)), (1, .ref (a ia)), (2, .ref (a ib)), (3, .int (nI k))]) ?_ ?_ 24 0 _ _ rfl fil.zero
  · intro f' g' hI
    obtain hI := hI
    refine J.iload_n C dX1_times_2 rfl 3 rfl ?_
    refine J.bipush (v := nI 24) C dX1_times_3 (by decide) ?_
    refine J.ncmp_ge (tgt := 21) C dX1_times_5 (by decide) (by first | omega | exact d16 _ _) (by first | omega | exact d16 _ _) (fun h => ?_) (fun h => ?_)
    · have hz : Rd 65536 24 (f' 8) 0 := Rd.zero (fun k hk => by have := hI.at.1 k hk; rwa [Nat.zero_add] at this)
      have hk0 : ∀ j, j ≠ 5 → j ≠ 8 → f' j = f j := fun j _ h8 => hI.other h8
      have l384 : B < 2 ^ 384 := Nat.lt_trans lB (by decide)
      refine J.sipush (v := nI 383) C dX1_times_21 (by decide) ?_
      refine J.istore_n (lv' := [(3, .int _), (0, .ref _), (1, .ref _), (2, .ref _)]) C dX1_times_24 rfl (by decide) rfl ?_
      refine J.perm (lv' := [(0, .ref _), (1, .ref _), (2, .ref _), (3, .int _)]) [1, 2, 3, 0] rfl ?_
      refine J.loopM (head := 25) (fun m : Nat => m) (fun m f' g' => m ≤ 384 ∧ (∀ j, j ≠ 5 → j ≠ 8 → f' j = f j) ∧ Rd 65536 24 (f' 8) ((A * (B / 2 ^ m)) % PP)) (fun m => [(0, .ref (a 0)), (1, .ref (a ia)), (2, .ref (a ib)), (3, .int (pm m))]) ?_ 385 384 _ _ (by decide) ⟨Nat.le_refl _, hk0, by rw [Nat.div_eq_of_lt l384, Nat.mul_zero, Nat.zero_mod]; exact hz⟩
      clear hz hk0 hI
      intro m f1 g1 hQ ih
      obtain ⟨hm, hk1, hz1⟩ := hQ
      cases m with
      | zero =>
        refine J.iload_n C dX1_times_25 rfl 3 rfl ?_
        refine J.if_lt (tgt := 79) C dX1_times_26 (by decide) (fun c => ?_) (fun c => ?_)
        · rw [Nat.pow_zero, Nat.div_one] at hz1
          exact J.vret C dX1_times_79 ⟨rfl, hk1, hz1⟩
        · exact absurd (show pm 0 < 0 by decide) c
      | succ i =>
        refine J.iload_n C dX1_times_25 rfl 3 rfl ?_
        refine J.if_lt (tgt := 79) C dX1_times_26 (by decide) (fun c => ?_) (fun c => ?_)
        · exact absurd c (nI_pos (n := i) (by omega))
        · have hp1 : Rd 65536 24 (f1 3) PP := by rw [hk1 3 (by decide) (by decide)]; exact hp
          refine J.aload_n C dX1_times_29 rfl 0 rfl ?_
          refine J.aload_n C dX1_times_30 rfl 0 rfl ?_
          refine J.get1 C 7 (by decide) q192 dX1_times_31 ?_
          refine J.aload_n C dX1_times_34 rfl 0 rfl ?_
          refine J.get1 C 7 (by decide) q192 dX1_times_35 ?_
          refine J.aload_n C dX1_times_38 rfl 0 rfl ?_
          refine J.get1 C 7 (by decide) q192 dX1_times_39 ?_
          refine J.callV (rest := []) C (m_plus (gk (by decide)) rfl (gk (by decide)) rfl (gk (by decide)) rfl hp1 (by decide) hz1 hz1 (Nat.mod_lt _ PP_pos) (Nat.mod_lt _ PP_pos)) _ rfl q251 q253 qs11 q19 q254 (by show _ = _ ∧ _ ≠ _ ∧ _ ≠ _ ∧ _ = some 3; decide +kernel) ⟨by decide, by decide⟩ rfl (Nat.le_of_ble_eq_true rfl) dX1_times_42 (fun v f2 g2 hR => ?_)
          obtain ⟨rfl, hk2, hz2⟩ := hR
          refine J.eqs (st' := []) rfl ?_
          refine J.aload_n C dX1_times_45 rfl 2 rfl ?_
          refine J.iload_n C dX1_times_46 rfl 3 rfl ?_
          refine J.iconst (v := nI 4) C dX1_times_47 (by decide) ?_
          refine J.ishr C dX1_times_48 ?_
          refine J.eqi (pk_shrN (by omega) _ 4 (by decide +kernel)) ?_
          refine J.iald C k_ib (by rw [n_ib]; omega) dX1_times_49 ?_
          refine J.eqi (y := nI (dgt 65536 B (i / 2 ^ 4))) (by rw [hk2 ib h5b h3b, hk1 ib h5b h3b]; exact hB _ (by omega)) ?_
          refine J.iload_n C dX1_times_50 rfl 3 rfl ?_
          refine J.bipush (v := nI 15) C dX1_times_51 (by decide) ?_
          refine J.iand C dX1_times_53 ?_
          refine J.eqi (w_and (m := 15) 4 (by omega) rfl (by decide)) ?_
          refine J.ishr C dX1_times_54 ?_
          refine J.eqi (pk_shrN (d16 _ _) _ (i % 2 ^ 4) (s_l' _ (by omega))) ?_
          refine J.iconst (v := nI 1) C dX1_times_55 (by decide) ?_
          refine J.iand C dX1_times_56 ?_
          refine J.eqi (w_and (m := 1) 1 (Nat.lt_of_le_of_lt (Nat.div_le_self _ _) (dgt_lt32 okb16 _ _)) rfl (by decide)) ?_
          refine J.eqi (y := nI (B / 2 ^ i % 2)) (congrArg nI (ti_bit (B := B) (i := i))) ?_
          refine J.if_eq (tgt := 73) C dX1_times_57 (by decide) (fun c2 => ?_) (fun c2 => ?_)
          · have c3 : B / 2 ^ i % 2 = 0 := (w_inj (by omega) (by decide)).mp c2
            refine J.iinc (x := nI i) (v := pm i) (lv' := [(3, .int _), (0, .ref _), (1, .ref _), (2, .ref _)]) C dX1_times_73 3 rfl (pm_dec i) (by decide) rfl ?_
            refine J.goto (tgt := 25) C dX1_times_76 (by decide) ?_
            refine J.perm (lv' := [(0, .ref _), (1, .ref _), (2, .ref _), (3, .int _)]) [1, 2, 3, 0] rfl ?_
            exact ih i _ _ ⟨by omega, fun j h5 h8 => by rw [hk2 j h5 h8, hk1 j h5 h8], by rw [← ti_0 rfl c3]; exact hz2⟩ (Nat.lt_succ_self i)
          · have c3 : B / 2 ^ i % 2 = 1 := by
              rcases Nat.mod_two_eq_zero_or_one (B / 2 ^ i) with q | q
              · exact absurd (by rw [q]; rfl) c2
              · exact q
            have hp2 : Rd 65536 24 (f2 3) PP := by rw [hk2 3 (by decide) (by decide)]; exact hp1
            have hA2 : Rd 65536 24 (f2 ia) A := by rw [hk2 ia h5a h3a, hk1 ia h5a h3a]; exact hA
            refine J.aload_n C dX1_times_60 rfl 0 rfl ?_
            refine J.aload_n C dX1_times_61 rfl 0 rfl ?_
            refine J.get1 C 7 (by decide) q192 dX1_times_62 ?_
            refine J.aload_n C dX1_times_65 rfl 0 rfl ?_
            refine J.get1 C 7 (by decide) q192 dX1_times_66 ?_
            refine J.aload_n C dX1_times_69 rfl 1 rfl ?_
            refine J.callV (rest := []) C (m_plus (gk (by decide)) rfl (gk (by decide)) rfl k_ia n_ia hp2 (by decide) hz2 hA2 (Nat.mod_lt _ PP_pos) lA) _ rfl q251 q253 qs11 q19 q254 (by show _ = _ ∧ _ ≠ _ ∧ _ ≠ _ ∧ _ = some 3; decide +kernel) ⟨by decide, by decide⟩ rfl (Nat.le_of_ble_eq_true rfl) dX1_times_70 (fun v f3 g3 hR => ?_)
            obtain ⟨rfl, hk3, hz3⟩ := hR
            refine J.eqs (st' := []) rfl ?_
            refine J.iinc (x := nI i) (v := pm i) (lv' := [(3, .int _), (0, .ref _), (1, .ref _), (2, .ref _)]) C dX1_times_73 3 rfl (pm_dec i) (by decide) rfl ?_
            refine J.goto (tgt := 25) C dX1_times_76 (by decide) ?_
            refine J.perm (lv' := [(0, .ref _), (1, .ref _), (2, .ref _), (3, .int _)]) [1, 2, 3, 0] rfl ?_
            exact ih i _ _ ⟨by omega, fun j h5 h8 => by rw [hk3 j h5 h8, hk2 j h5 h8, hk1 j h5 h8], by rw [← ti_1 rfl c3]; exact hz3⟩ (Nat.lt_succ_self i)
    · exact absurd h (by omega)
  · intro k f' g' hk hI ih
    obtain hI := hI
    refine J.iload_n C dX1_times_2 rfl 3 rfl ?_
    refine J.bipush (v := nI 24) C dX1_times_3 (by decide) ?_
    refine J.ncmp_ge (tgt := 21) C dX1_times_5 (by decide) (by first | omega | exact d16 _ _) (by first | omega | exact d16 _ _) (fun h => ?_) (fun h => ?_)
    · exact absurd h (by omega)
    · refine J.aload_n C dX1_times_8 rfl 0 rfl ?_
      refine J.get1 C 7 (by decide) q192 dX1_times_9 ?_
      refine J.iload_n C dX1_times_12 rfl 3 rfl ?_
      refine J.iconst (v := nI 0) C dX1_times_13 (by decide) ?_
      refine J.fast C hI (gk (by decide)) (Nat.zero_add k).symm (by show _ < 24; omega) rfl dX1_times_14 (fun f' hI => ?_)
      refine J.inc (lv' := [(3, .int _), (0, .ref _), (1, .ref _), (2, .ref _)]) C dX1_times_15 3 rfl (by decide) rfl ?_
      refine J.goto (tgt := 2) C dX1_times_18 (by decide) ?_
      refine J.perm (lv' := [(0, .ref _), (1, .ref _), (2, .ref _), (3, .int _)]) [1, 2, 3, 0] rfl ?_
      exact ih _ _ hI
end Mmi
end
section
section Mst
def orv (A : Nat) : Nat → Nat
  | 0 => 0
  | k + 1 => orv A k ||| dgt 65536 A k
theorem orv_lt (A : Nat) : ∀ k, orv A k < 2 ^ 16 := by
  intro k
  induction k with
  | zero => exact (by decide : 0 < 2 ^ 16)
  | succ k ih => exact Nat.or_lt_two_pow ih (dgt_lt okb16 A k)
theorem orv_0 (A : Nat) : ∀ k, orv A k = 0 ↔ A % 65536 ^ k = 0 := by
  intro k
  induction k with
  | zero => simp [orv, Nat.mod_one]
  | succ k ih =>
    show (orv A k ||| dgt 65536 A k) = 0 ↔ _
    have hpp := pow_pos' okb16 k
    rw [Nat.or_eq_zero_iff, ih, mod_succ, Nat.add_eq_zero_iff, Nat.mul_eq_zero]
    constructor
    · exact fun h => ⟨h.1, Or.inr h.2⟩
    · exact fun h => ⟨h.1, h.2.resolve_left (by omega)⟩
theorem bs_z25 {A B k : Nat} (hk : k < 25) (lB : B ≤ 65536 ^ 25) : (((dgt 65536 A k : Int) - (dgt 65536 B k : Int)) + -(bw 65536 A B k : Int)) % 65536 = (dgt 65536 (A + 65536 ^ 25 - B) k : Int) := by
  rw [dgt_sub okb16 hk lB]
  have := bw_le (b := 65536) (A := A) (B := B) (k := k)
  have := dgt_lt okb16 A k
  have := dgt_lt okb16 B k
  omega
set_option maxHeartbeats 4000000 in
set_option maxRecDepth 100000 in
theorem m_nought {l : Launch} {D : va_G} {d dL : ClassId} {a : Nat → Nat} {f : gF} {g : gG} {ia A : Nat} (k_ia : gOk 1 ia) (n_ia : gLen 1 ia = 25) (hA : Rd 65536 25 (f ia) A) (lA : A < 65536 ^ 25) : gMet l yX1_nought cX1_nought 3 (some .boolean) 0 0 D d dL 1 a [.ref (a ia)] f g (fun v f' g' => v = some (.int (tf (A = 0))) ∧ f' = f) := by
  refine gMet.of (by decide) (Nat.le_of_ble_eq_true rfl) (fun z C => ?_)
  show J z f g 0 [(0, .ref (a ia))] []
  refine J.iconst (v := nI 0) C dX1_nought_0 (by decide) ?_
  refine J.eqi (y := nI (orv A 0)) rfl ?_
  refine J.istore_n (lv' := [(1, .int _), (0, .ref _)]) C dX1_nought_1 rfl (by decide) rfl ?_
  refine J.iconst (v := nI 0) C dX1_nought_2 (by decide) ?_
  refine J.istore_n (lv' := [(2, .int _), (1, .int _), (0, .ref _)]) C dX1_nought_3 rfl (by decide) rfl ?_
  refine J.perm (lv' := [(0, .ref _), (1, .int _), (2, .int _)]) [2, 1, 0] rfl ?_
  refine J.loop (head := 4) 25 (fun k f' g' => f' = f) (fun k => [(0, .ref (a ia)), (1, .int (nI (orv A k))), (2, .int (nI k))]) ?_ ?_ 25 0 _ _ rfl rfl
  · intro f' g' hI
    obtain rfl := hI
    refine J.iload_n C dX1_nought_4 rfl 2 rfl ?_
    refine J.bipush (v := nI 25) C dX1_nought_5 (by decide) ?_
    refine J.ncmp_ge (tgt := 22) C dX1_nought_7 (by decide) (by first | omega | exact d16 _ _) (by first | omega | exact d16 _ _) (fun h => ?_) (fun h => ?_)
    · have h0 := orv_0 A 25
      rw [Nat.mod_eq_of_lt lA] at h0
      have hl := orv_lt A 25
      refine J.iload_n C dX1_nought_22 rfl 1 rfl ?_
      refine J.if_ne (tgt := 30) C dX1_nought_23 (by decide) (fun c => ?_) (fun c => ?_)
      · refine J.iconst (v := nI 0) C dX1_nought_30 (by decide) ?_
        refine J.eqi (y := tf (A = 0)) (tf_f (fun q => c (by rw [h0.mpr q]; rfl))).symm ?_
        exact J.zret C tf_nar dX1_nought_31 ⟨rfl, rfl⟩
      · refine J.iconst (v := nI 1) C dX1_nought_26 (by decide) ?_
        refine J.goto (tgt := 31) C dX1_nought_27 (by decide) ?_
        refine J.eqi (y := tf (A = 0)) (tf_t (h0.mp ((w_inj (by omega) (by decide)).mp c))).symm ?_
        exact J.zret C tf_nar dX1_nought_31 ⟨rfl, rfl⟩
    · exact absurd h (by omega)
  · intro k f' g' hk hI ih
    obtain rfl := hI
    refine J.iload_n C dX1_nought_4 rfl 2 rfl ?_
    refine J.bipush (v := nI 25) C dX1_nought_5 (by decide) ?_
    refine J.ncmp_ge (tgt := 22) C dX1_nought_7 (by decide) (by first | omega | exact d16 _ _) (by first | omega | exact d16 _ _) (fun h => ?_) (fun h => ?_)
    · exact absurd h (by omega)
    · refine J.iload_n C dX1_nought_10 rfl 1 rfl ?_
      refine J.aload_n C dX1_nought_11 rfl 0 rfl ?_
      refine J.iload_n C dX1_nought_12 rfl 2 rfl ?_
      refine J.iald C k_ia (by rw [n_ia]; omega) dX1_nought_13 ?_
      refine J.eqi (hA k hk) ?_
      refine J.ior C dX1_nought_14 ?_
      refine J.eqi (y := nI (orv A (k + 1))) w_or ?_
      refine J.istore_n (lv' := [(1, .int _), (0, .ref _), (2, .int _)]) C dX1_nought_15 rfl (by decide) rfl ?_
      refine J.inc (lv' := [(2, .int _), (1, .int _), (0, .ref _)]) C dX1_nought_16 2 rfl (by decide) rfl ?_
      refine J.goto (tgt := 4) C dX1_nought_19 (by decide) ?_
      refine J.perm (lv' := [(0, .ref _), (1, .int _), (2, .int _)]) [2, 1, 0] rfl ?_
      exact ih _ _ rfl
set_option maxHeartbeats 4000000 in
set_option maxRecDepth 100000 in
theorem m_half {l : Launch} {D : va_G} {d dL : ClassId} {a : Nat → Nat} {f : gF} {g : gG} {ia A : Nat} (k_ia : gOk 1 ia) (n_ia : gLen 1 ia = 25) (hA : Rd 65536 25 (f ia) A) (lA : A < 65536 ^ 25) : gMet l yX1_half cX1_half 2 none 0 0 D d dL 1 a [.ref (a ia)] f g (fun v f' g' => v = none ∧ nu 65536 25 f ia (A / 2) f') := by
  refine gMet.of (by decide) (Nat.le_of_ble_eq_true rfl) (fun z C => ?_)
  show J z f g 0 [(0, .ref (a ia))] []
  refine J.iconst (v := nI 0) C dX1_half_0 (by decide) ?_
  refine J.istore_n (lv' := [(1, .int _), (0, .ref _)]) C dX1_half_1 rfl (by decide) rfl ?_
  refine J.perm (lv' := [(0, .ref _), (1, .int _)]) [1, 0] rfl ?_
  refine J.loop (head := 2) 24 (fun k f' g' => fil f ia 0 (fun j => nI (dgt 65536 (A / 2) j)) k f') (fun k => [(0, .ref (a ia)), (1, .int (nI k))]) ?_ ?_ 24 0 _ _ rfl fil.zero
  · intro f' g' hI
    obtain hI := hI
    refine J.iload_n C dX1_half_2 rfl 1 rfl ?_
    refine J.bipush (v := nI 24) C dX1_half_3 (by decide) ?_
    refine J.ncmp_ge (tgt := 33) C dX1_half_5 (by decide) (by first | omega | exact d16 _ _) (by first | omega | exact d16 _ _) (fun h => ?_) (fun h => ?_)
    · refine J.aload_n C dX1_half_33 rfl 0 rfl ?_
      refine J.bipush (v := nI 24) C dX1_half_34 (by decide) ?_
      refine J.aload_n C dX1_half_36 rfl 0 rfl ?_
      refine J.bipush (v := nI 24) C dX1_half_37 (by decide) ?_
      refine J.iald C k_ia (by rw [n_ia]; omega) dX1_half_39 ?_
      refine J.eqi ((hI.read ia (Nat.le_refl 24)).trans (hA 24 (by omega))) ?_
      refine J.iconst (v := nI 1) C dX1_half_40 (by decide) ?_
      refine J.ishr C dX1_half_41 ?_
      refine J.eqi (pk_shrN (d16 _ _) _ 1 (by decide +kernel)) ?_
      refine J.fast C hI k_ia (Nat.zero_add 24).symm (by rw [n_ia]; omega) (by rw [dgt_half okb16, dgt_hi (k := 24 + 1) lA (Nat.le_refl 25) okb16]; rfl) dX1_half_42 (fun f' hI => ?_)
      exact J.vret C dX1_half_43 ⟨rfl, hI.nu⟩
    · exact absurd h (by omega)
  · intro k f' g' hk hI ih
    obtain hI := hI
    refine J.iload_n C dX1_half_2 rfl 1 rfl ?_
    refine J.bipush (v := nI 24) C dX1_half_3 (by decide) ?_
    refine J.ncmp_ge (tgt := 33) C dX1_half_5 (by decide) (by first | omega | exact d16 _ _) (by first | omega | exact d16 _ _) (fun h => ?_) (fun h => ?_)
    · exact absurd h (by omega)
    · refine J.aload_n C dX1_half_8 rfl 0 rfl ?_
      refine J.iload_n C dX1_half_9 rfl 1 rfl ?_
      refine J.aload_n C dX1_half_10 rfl 0 rfl ?_
      refine J.iload_n C dX1_half_11 rfl 1 rfl ?_
      refine J.iald C k_ia (by rw [n_ia]; omega) dX1_half_12 ?_
      refine J.eqi ((hI.read ia (Nat.le_refl k)).trans (hA k (by omega))) ?_
      refine J.iconst (v := nI 1) C dX1_half_13 (by decide) ?_
      refine J.ishr C dX1_half_14 ?_
      refine J.aload_n C dX1_half_15 rfl 0 rfl ?_
      refine J.iload_n C dX1_half_16 rfl 1 rfl ?_
      refine J.iconst (v := nI 1) C dX1_half_17 (by decide) ?_
      refine J.iadd C dX1_half_18 ?_
      refine J.eqi (w_add k 1) ?_
      refine J.iald C k_ia (by rw [n_ia]; omega) dX1_half_19 ?_
      refine J.eqi ((hI.read ia (Nat.le_succ k)).trans (hA (k + 1) (by omega))) ?_
      refine J.iconst (v := nI 1) C dX1_half_20 (by decide) ?_
      refine J.iand C dX1_half_21 ?_
      refine J.bipush (v := nI 15) C dX1_half_22 (by decide) ?_
      refine J.ishl C dX1_half_24 ?_
      refine J.ior C dX1_half_25 ?_
      refine J.eqi (w_half16 (dgt_lt okb16 _ _) (dgt_lt okb16 _ _)) ?_
      refine J.fast C hI k_ia (Nat.zero_add k).symm (by rw [n_ia]; omega) (by rw [dgt_half okb16]) dX1_half_26 (fun f' hI => ?_)
      refine J.inc (lv' := [(1, .int _), (0, .ref _)]) C dX1_half_27 1 rfl (by decide) rfl ?_
      refine J.goto (tgt := 2) C dX1_half_30 (by decide) ?_
      refine J.perm (lv' := [(0, .ref _), (1, .int _)]) [1, 0] rfl ?_
      exact ih _ _ hI
set_option maxHeartbeats 4000000 in
set_option maxRecDepth 100000 in
theorem m_more {l : Launch} {D : va_G} {d dL : ClassId} {a : Nat → Nat} {f : gF} {g : gG} {ia A : Nat} (k_ia : gOk 1 ia) (n_ia : gLen 1 ia = 25) (hp : Rd 65536 24 (f 3) PP) (hA : Rd 65536 25 (f ia) A) : gMet l yX1_more cX1_more 5 none 0 0 D d dL 1 a [.ref (a 0), .ref (a ia)] f g (fun v f' g' => v = none ∧ nu 65536 25 f ia (A + PP) f') := by
  refine gMet.of (by decide) (Nat.le_of_ble_eq_true rfl) (fun z C => ?_)
  show J z f g 0 [(0, .ref (a 0)), (1, .ref (a ia))] []
  have hne : 3 ≠ ia := fun e => by rw [← e] at n_ia; exact absurd n_ia (by decide)
  refine J.iconst (v := nI 0) C dX1_more_0 (by decide) ?_
  refine J.eqi (y := nI (cr 65536 A PP 0)) (by rw [cr_0]) ?_
  refine J.istore_n (lv' := [(2, .int _), (0, .ref _), (1, .ref _)]) C dX1_more_1 rfl (by decide) rfl ?_
  refine J.iconst (v := nI 0) C dX1_more_2 (by decide) ?_
  refine J.istore_n (lv' := [(3, .int _), (2, .int _), (0, .ref _), (1, .ref _)]) C dX1_more_3 rfl (by decide) rfl ?_
  refine J.perm (lv' := [(0, .ref _), (1, .ref _), (2, .int _), (3, .int _)]) [2, 3, 1, 0] rfl ?_
  refine J.loop (head := 4) 25 (fun k f' g' => fil f ia 0 (fun j => nI (dgt 65536 (A + PP) j)) k f') (fun k => [(0, .ref (a 0)), (1, .ref (a ia)), (2, .int (nI (cr 65536 A PP k))), (3, .int (nI k))]) ?_ ?_ 25 0 _ _ rfl fil.zero
  · intro f' g' hI
    obtain hI := hI
    refine J.iload_n C dX1_more_4 rfl 3 rfl ?_
    refine J.bipush (v := nI 25) C dX1_more_5 (by decide) ?_
    refine J.ncmp_ge (tgt := 54) C dX1_more_7 (by decide) (by first | omega | exact d16 _ _) (by first | omega | exact d16 _ _) (fun h => ?_) (fun h => ?_)
    · exact J.vret C dX1_more_54 ⟨rfl, hI.nu⟩
    · exact absurd h (by omega)
  · intro k f' g' hk hI ih
    obtain hI := hI
    refine J.iload_n C dX1_more_4 rfl 3 rfl ?_
    refine J.bipush (v := nI 25) C dX1_more_5 (by decide) ?_
    refine J.ncmp_ge (tgt := 54) C dX1_more_7 (by decide) (by first | omega | exact d16 _ _) (by first | omega | exact d16 _ _) (fun h => ?_) (fun h => ?_)
    · exact absurd h (by omega)
    · have hst : J z f' g' 29 [(0, .ref (a 0)), (1, .ref (a ia)), (2, .int (nI (cr 65536 A PP k))), (3, .int (nI k))] [.int (nI (dgt 65536 PP k)), .int (nI (dgt 65536 A k))] := by
        refine J.iadd C dX1_more_29 ?_
        refine J.eqi (w_add _ _) ?_
        refine J.iload_n C dX1_more_30 rfl 2 rfl ?_
        refine J.iadd C dX1_more_31 ?_
        refine J.eqi (w_add _ _) ?_
        refine J.istore (lv' := [(4, .int _), (0, .ref _), (1, .ref _), (2, .int _), (3, .int _)]) C dX1_more_32 (by decide) rfl ?_
        refine J.aload_n C dX1_more_34 rfl 2 rfl ?_
        refine J.iload_n C dX1_more_35 rfl 4 rfl ?_
        refine J.iload C dX1_more_36 0 rfl ?_
        refine J.ldc C q183 dX1_more_38 ?_
        refine J.eqi (y := nI 65535) rfl ?_
        refine J.iand C dX1_more_40 ?_
        refine J.eqi cs_d ?_
        refine J.fast C hI k_ia (Nat.zero_add k).symm (by rw [n_ia]; omega) rfl dX1_more_41 (fun f' hI => ?_)
        refine J.iload C dX1_more_42 0 rfl ?_
        refine J.bipush (v := nI 16) C dX1_more_44 (by decide) ?_
        refine J.ishr C dX1_more_46 ?_
        refine J.eqi cs_c ?_
        refine J.istore_n (lv' := [(2, .int _), (4, .int _), (0, .ref _), (1, .ref _), (3, .int _)]) C dX1_more_47 rfl (by decide) rfl ?_
        refine J.inc (lv' := [(3, .int _), (2, .int _), (4, .int _), (0, .ref _), (1, .ref _)]) C dX1_more_48 4 rfl (by decide) rfl ?_
        refine J.goto (tgt := 4) C dX1_more_51 (by decide) ?_
        refine J.perm (lv' := [(0, .ref _), (1, .ref _), (2, .int _), (3, .int _)]) [3, 4, 1, 0] rfl ?_
        exact ih _ _ hI
      refine J.aload_n C dX1_more_10 rfl 1 rfl ?_
      refine J.iload_n C dX1_more_11 rfl 3 rfl ?_
      refine J.iald C k_ia (by rw [n_ia]; omega) dX1_more_12 ?_
      refine J.eqi ((hI.read ia (Nat.le_refl k)).trans (hA k (by omega))) ?_
      refine J.iload_n C dX1_more_13 rfl 3 rfl ?_
      refine J.bipush (v := nI 24) C dX1_more_14 (by decide) ?_
      refine J.ncmp_ge (tgt := 28) C dX1_more_16 (by decide) (by first | omega | exact d16 _ _) (by first | omega | exact d16 _ _) (fun h24 => ?_) (fun h24 => ?_)
      · refine J.iconst (v := nI 0) C dX1_more_28 (by decide) ?_
        refine J.eqi (y := nI (dgt 65536 PP k)) (by rw [dgt_hi P24 h24 okb16]) ?_
        exact hst
      · refine J.aload_n C dX1_more_19 rfl 0 rfl ?_
        refine J.get1 C 2 (by decide) q187 dX1_more_20 ?_
        refine J.iload_n C dX1_more_23 rfl 3 rfl ?_
        refine J.iald C (gk (by decide)) (by show _ < 24; omega) dX1_more_24 ?_
        refine J.eqi (y := nI (dgt 65536 PP k)) (by rw [hI.other hne]; exact hp k h24) ?_
        refine J.goto (tgt := 29) C dX1_more_25 (by decide) ?_
        exact hst
set_option maxHeartbeats 4000000 in
set_option maxRecDepth 100000 in
theorem m_lessen {l : Launch} {D : va_G} {d dL : ClassId} {a : Nat → Nat} {f : gF} {g : gG} {ia ib A B : Nat} (k_ia : gOk 1 ia) (n_ia : gLen 1 ia = 25) (k_ib : gOk 1 ib) (n_ib : gLen 1 ib = 25) (hA : Rd 65536 25 (f ia) A) (hB : Rd 65536 25 (f ib) B) (lB : B ≤ 65536 ^ 25) : gMet l yX1_lessen cX1_lessen 5 none 0 0 D d dL 1 a [.ref (a ia), .ref (a ib)] f g (fun v f' g' => v = none ∧ nu 65536 25 f ia (A + 65536 ^ 25 - B) f') := by
  refine gMet.of (by decide) (Nat.le_of_ble_eq_true rfl) (fun z C => ?_)
  show J z f g 0 [(0, .ref (a ia)), (1, .ref (a ib))] []
  refine J.iconst (v := nI 0) C dX1_lessen_0 (by decide) ?_
  refine J.eqi (y := iI (-(bw 65536 A B 0 : Int))) (by rw [bw_0]; rfl) ?_
  refine J.istore_n (lv' := [(2, .int _), (0, .ref _), (1, .ref _)]) C dX1_lessen_1 rfl (by decide) rfl ?_
  refine J.iconst (v := nI 0) C dX1_lessen_2 (by decide) ?_
  refine J.istore_n (lv' := [(3, .int _), (2, .int _), (0, .ref _), (1, .ref _)]) C dX1_lessen_3 rfl (by decide) rfl ?_
  refine J.perm (lv' := [(0, .ref _), (1, .ref _), (2, .int _), (3, .int _)]) [2, 3, 1, 0] rfl ?_
  refine J.loop (head := 4) 25 (fun k f' g' => fil f ia 0 (fun j => nI (dgt 65536 (A + 65536 ^ 25 - B) j)) k f') (fun k => [(0, .ref (a ia)), (1, .ref (a ib)), (2, .int (iI (-(bw 65536 A B k : Int)))), (3, .int (nI k))]) ?_ ?_ 25 0 _ _ rfl fil.zero
  · intro f' g' hI
    obtain hI := hI
    refine J.iload_n C dX1_lessen_4 rfl 3 rfl ?_
    refine J.bipush (v := nI 25) C dX1_lessen_5 (by decide) ?_
    refine J.ncmp_ge (tgt := 41) C dX1_lessen_7 (by decide) (by first | omega | exact d16 _ _) (by first | omega | exact d16 _ _) (fun h => ?_) (fun h => ?_)
    · exact J.vret C dX1_lessen_41 ⟨rfl, hI.nu⟩
    · exact absurd h (by omega)
  · intro k f' g' hk hI ih
    obtain hI := hI
    refine J.iload_n C dX1_lessen_4 rfl 3 rfl ?_
    refine J.bipush (v := nI 25) C dX1_lessen_5 (by decide) ?_
    refine J.ncmp_ge (tgt := 41) C dX1_lessen_7 (by decide) (by first | omega | exact d16 _ _) (by first | omega | exact d16 _ _) (fun h => ?_) (fun h => ?_)
    · exact absurd h (by omega)
    · refine J.aload_n C dX1_lessen_10 rfl 0 rfl ?_
      refine J.iload_n C dX1_lessen_11 rfl 3 rfl ?_
      refine J.iald C k_ia (by rw [n_ia]; omega) dX1_lessen_12 ?_
      refine J.eqi ((hI.read ia (Nat.le_refl k)).trans (hA k hk)) ?_
      refine J.aload_n C dX1_lessen_13 rfl 1 rfl ?_
      refine J.iload_n C dX1_lessen_14 rfl 3 rfl ?_
      refine J.iald C k_ib (by rw [n_ib]; omega) dX1_lessen_15 ?_
      refine J.eqi ((hI.read ib (Nat.le_refl k)).trans (hB k hk)) ?_
      refine J.isub C dX1_lessen_16 ?_
      refine J.eqi (nI_sub _ _) ?_
      refine J.iload_n C dX1_lessen_17 rfl 2 rfl ?_
      refine J.iadd C dX1_lessen_18 ?_
      refine J.eqi (iI_add _ _) ?_
      refine J.istore (lv' := [(4, .int _), (0, .ref _), (1, .ref _), (2, .int _), (3, .int _)]) C dX1_lessen_19 (by decide) rfl ?_
      refine J.aload_n C dX1_lessen_21 rfl 1 rfl ?_
      refine J.iload_n C dX1_lessen_22 rfl 4 rfl ?_
      refine J.iload C dX1_lessen_23 0 rfl ?_
      refine J.ldc C q183 dX1_lessen_25 ?_
      refine J.eqi (y := nI 65535) rfl ?_
      refine J.iand C dX1_lessen_27 ?_
      refine J.eqi (iI_and16 (bs_z25 hk lB)) ?_
      refine J.fast C hI k_ia (Nat.zero_add k).symm (by rw [n_ia]; omega) rfl dX1_lessen_28 (fun f' hI => ?_)
      refine J.iload C dX1_lessen_29 0 rfl ?_
      refine J.bipush (v := nI 16) C dX1_lessen_31 (by decide) ?_
      refine J.ishr C dX1_lessen_33 ?_
      refine J.eqi (iI_shr16 bs_l.1 bs_l.2) ?_
      refine J.eqi (congrArg iI bs_c) ?_
      refine J.istore_n (lv' := [(2, .int _), (4, .int _), (0, .ref _), (1, .ref _), (3, .int _)]) C dX1_lessen_34 rfl (by decide) rfl ?_
      refine J.inc (lv' := [(3, .int _), (2, .int _), (4, .int _), (0, .ref _), (1, .ref _)]) C dX1_lessen_35 4 rfl (by decide) rfl ?_
      refine J.goto (tgt := 4) C dX1_lessen_38 (by decide) ?_
      refine J.perm (lv' := [(0, .ref _), (1, .ref _), (2, .int _), (3, .int _)]) [3, 4, 1, 0] rfl ?_
      exact ih _ _ hI
set_option maxHeartbeats 4000000 in
set_option maxRecDepth 100000 in
theorem m_less {l : Launch} {D : va_G} {d dL : ClassId} {a : Nat → Nat} {f : gF} {g : gG} {ia ib A B : Nat} (k_ia : gOk 1 ia) (n_ia : gLen 1 ia = 25) (k_ib : gOk 1 ib) (n_ib : gLen 1 ib = 25) (hA : Rd 65536 25 (f ia) A) (hB : Rd 65536 25 (f ib) B) (lA : A < 65536 ^ 25) (lB : B < 65536 ^ 25) : gMet l yX1_less cX1_less 3 (some .boolean) 0 0 D d dL 1 a [.ref (a ia), .ref (a ib)] f g (fun v f' g' => v = some (.int (tf (A < B))) ∧ f' = f) := by
  refine gMet.of (by decide) (Nat.le_of_ble_eq_true rfl) (fun z C => ?_)
  show J z f g 0 [(0, .ref (a ia)), (1, .ref (a ib))] []
  have cmp : ∀ (gS : gG) (k : Nat), k ≤ 24 → A / 65536 ^ (k + 1) = B / 65536 ^ (k + 1) → (k = 0 ∨ dgt 65536 A k ≠ dgt 65536 B k) → J z f gS 23 [(0, .ref (a ia)), (1, .ref (a ib)), (2, .int (nI k))] [] := by
    intro gS k hk hE h0
    refine J.aload_n C dX1_less_23 rfl 0 rfl ?_
    refine J.iload_n C dX1_less_24 rfl 2 rfl ?_
    refine J.iald C k_ia (by rw [n_ia]; omega) dX1_less_25 ?_
    refine J.eqi (hA k (by omega)) ?_
    refine J.aload_n C dX1_less_26 rfl 1 rfl ?_
    refine J.iload_n C dX1_less_27 rfl 2 rfl ?_
    refine J.iald C k_ib (by rw [n_ib]; omega) dX1_less_28 ?_
    refine J.eqi (hB k (by omega)) ?_
    refine J.ncmp_ge (tgt := 36) C dX1_less_29 (by decide) (by first | omega | exact d16 _ _) (by first | omega | exact d16 _ _) (fun c => ?_) (fun c => ?_)
    · refine J.iconst (v := nI 0) C dX1_less_36 (by decide) ?_
      refine J.eqi (y := tf (A < B)) (tf_f (by have := ge_of_dgt okb16 hE c h0; omega)).symm ?_
      exact J.zret C tf_nar dX1_less_37 ⟨rfl, rfl⟩
    · refine J.iconst (v := nI 1) C dX1_less_32 (by decide) ?_
      refine J.goto (tgt := 37) C dX1_less_33 (by decide) ?_
      refine J.eqi (y := tf (A < B)) (tf_t (lt_of_dgt okb16 hE c)).symm ?_
      exact J.zret C tf_nar dX1_less_37 ⟨rfl, rfl⟩
  refine J.bipush (v := nI 24) C dX1_less_0 (by decide) ?_
  refine J.istore_n (lv' := [(2, .int _), (0, .ref _), (1, .ref _)]) C dX1_less_2 rfl (by decide) rfl ?_
  refine J.perm (lv' := [(0, .ref _), (1, .ref _), (2, .int _)]) [1, 2, 0] rfl ?_
  refine J.loopM (head := 3) (fun k : Nat => k) (fun k f' g' => f = f' ∧ k ≤ 24 ∧ A / 65536 ^ (k + 1) = B / 65536 ^ (k + 1)) (fun k => [(0, .ref (a ia)), (1, .ref (a ib)), (2, .int (nI k))]) ?_ 25 24 _ _ (by decide) ⟨rfl, Nat.le_refl _, by rw [Nat.div_eq_of_lt lA, Nat.div_eq_of_lt lB]⟩
  intro k f1 g1 hQ ih
  obtain ⟨rfl, hk, hE⟩ := hQ
  cases k with
  | zero =>
    refine J.iload_n C dX1_less_3 rfl 2 rfl ?_
    refine J.if_le (tgt := 23) C dX1_less_4 (by decide) (fun c3 => ?_) (fun c3 => ?_)
    · exact cmp _ 0 hk hE (Or.inl rfl)
    · exact absurd (by decide) c3
  | succ k =>
    refine J.iload_n C dX1_less_3 rfl 2 rfl ?_
    refine J.if_le (tgt := 23) C dX1_less_4 (by decide) (fun c3 => ?_) (fun c3 => ?_)
    · exact absurd c3 (nI_nle (by omega) (by omega))
    · refine J.aload_n C dX1_less_7 rfl 0 rfl ?_
      refine J.iload_n C dX1_less_8 rfl 2 rfl ?_
      refine J.iald C k_ia (by rw [n_ia]; omega) dX1_less_9 ?_
      refine J.eqi (hA (k + 1) (by omega)) ?_
      refine J.aload_n C dX1_less_10 rfl 1 rfl ?_
      refine J.iload_n C dX1_less_11 rfl 2 rfl ?_
      refine J.iald C k_ib (by rw [n_ib]; omega) dX1_less_12 ?_
      refine J.eqi (hB (k + 1) (by omega)) ?_
      refine J.icmp_ne (tgt := 23) C dX1_less_13 (by decide) (fun c4 => ?_) (fun c4 => ?_)
      · exact cmp _ (k + 1) hk hE (Or.inr fun q => c4 (by rw [q]))
      · refine J.iload_n C dX1_less_16 rfl 2 rfl ?_
        refine J.iconst (v := nI 1) C dX1_less_17 (by decide) ?_
        refine J.isub C dX1_less_18 ?_
        refine J.eqi (nI_pred k) ?_
        refine J.istore_n (lv' := [(2, .int _), (0, .ref _), (1, .ref _)]) C dX1_less_19 rfl (by decide) rfl ?_
        refine J.goto (tgt := 3) C dX1_less_20 (by decide) ?_
        refine J.perm (lv' := [(0, .ref _), (1, .ref _), (2, .int _)]) [1, 2, 0] rfl ?_
        exact ih k _ _ ⟨rfl, by omega, eq_of_dgt okb16 hE ((w_inj (dgt_lt32 okb16 _ _) (dgt_lt32 okb16 _ _)).mp c4)⟩ (Nat.lt_succ_self k)
end Mst
end
section
section Mfa
/-- what holds of a Prime384Model between calls -/
def MI (V : Nat → Nat) (Ln : Nat) (f : gF) : Prop := RG 65536 24 (f 1) V ∧ (Rd 65536 24 (f 2) Ln ∧ Ln < 4294967296 ^ 12) ∧ Rd 65536 24 (f 3) PP
theorem MI.keep {V : Nat → Nat} {Ln : Nat} {f f' : gF} (h : MI V Ln f) (e1 : f' 1 = f 1) (e2 : f' 2 = f 2) (e3 : f' 3 = f 3) : MI V Ln f' := by
  unfold MI
  rw [e1, e2, e3]
  exact h
theorem MI.nu {V : Nat → Nat} {Ln : Nat} {f f' : gF} {n it X : Nat} (h : MI V Ln f) (hn : nu 65536 n f it X f') (hit : 4 < it) : MI V Ln f' := h.keep (hn.ne (by omega)) (hn.ne (by omega)) (hn.ne (by omega))
theorem MI.fil {V : Nat → Nat} {Ln : Nat} {f f' : gF} {it o k : Nat} {v : Nat → Int32} (h : MI V Ln f) (hn : fil f it o v k f') (hit : 4 < it) : MI V Ln f' := h.keep (hn.other (by omega)) (hn.other (by omega)) (hn.other (by omega))
/-- but for two arrays above the fourth -/
theorem MI.two {V : Nat → Nat} {Ln : Nat} {f f' : gF} {i j : Nat} (h : MI V Ln f) (hk : ∀ q, q ≠ i → q ≠ j → f' q = f q) (hi : 4 < i) (hj : 4 < j) : MI V Ln f' := h.keep (hk 1 (by omega) (by omega)) (hk 2 (by omega) (by omega)) (hk 3 (by omega) (by omega))
theorem MI.put {V V' : Nat → Nat} {Ln : Nat} {f f' : gF} (h : MI V Ln f) (e : ∃ F, f' = va_up f 1 F) (hR : RG 65536 24 (f' 1) V') : MI V' Ln f' := by
  obtain ⟨F, rfl⟩ := e
  refine ⟨hR, ?_⟩
  rw [va_up_ne _ _ (by decide), va_up_ne _ _ (by decide)]
  exact h.2
theorem ms_sub {A B : Nat} (lB : B < PP) : (A + (PP - B) % PP) % PP = (A + PP - B) % PP := by
  rw [Nat.add_mod_mod, show A + (PP - B) = A + PP - B by omega]
theorem d32_16 (V q : Nat) : dgt 4294967296 V q = dgt 65536 V (2 * q) + dgt 65536 V (2 * q + 1) * 65536 := by
  unfold dgt
  rw [show (4294967296 : Nat) = 65536 ^ 2 by decide, ← Nat.pow_mul, Nat.pow_succ 65536 (2 * q), ← Nat.div_div_eq_div_mul]
  generalize V / 65536 ^ (2 * q) = y
  omega
set_option maxHeartbeats 4000000 in
set_option maxRecDepth 100000 in
theorem m_add {l : Launch} {D : va_G} {d dL : ClassId} {a : Nat → Nat} {f : gF} {g : gG} {V : Nat → Nat} {Ln : Nat} {r p q : Int32} (hI : MI V Ln f) (hV : VOK V) : gMet l yX1_add cX1_add 4 none 3 75 D d dL 1 a [.ref (a 0), .int r, .int p, .int q] f g (fun v f' g' => v = none ∧ MI (va_up V (rg r) ((V (rg p) + V (rg q)) % PP)) Ln f') := by
  refine gMet.of (by decide) (Nat.le_of_ble_eq_true rfl) (fun z C => ?_)
  show J z f g 0 [(0, .ref (a 0)), (1, .int r), (2, .int p), (3, .int q)] []
  refine J.aload_n C dX1_add_0 rfl 0 rfl ?_
  refine J.aload_n C dX1_add_1 rfl 0 rfl ?_
  refine J.get1 C 5 (by decide) q190 dX1_add_2 ?_
  refine J.iload_n C dX1_add_5 rfl 2 rfl ?_
  refine J.callV (rest := []) C (m_take (gk (by decide)) rfl hI.1) _ rfl q247 q249 qs10 q19 q250 (by show _ = _ ∧ _ ≠ _ ∧ _ ≠ _ ∧ _ = some 2; decide +kernel) ⟨by decide, by decide⟩ rfl (Nat.le_of_ble_eq_true rfl) dX1_add_6 (fun v f1 g1 hR => ?_)
  obtain ⟨rfl, h1⟩ := hR
  refine J.eqs (st' := []) rfl ?_
  have hI1 := hI.nu h1 (by decide)
  refine J.aload_n C dX1_add_9 rfl 0 rfl ?_
  refine J.aload_n C dX1_add_10 rfl 0 rfl ?_
  refine J.get1 C 6 (by decide) q191 dX1_add_11 ?_
  refine J.iload_n C dX1_add_14 rfl 3 rfl ?_
  refine J.callV (rest := []) C (m_take (gk (by decide)) rfl hI1.1) _ rfl q247 q249 qs10 q19 q250 (by show _ = _ ∧ _ ≠ _ ∧ _ ≠ _ ∧ _ = some 2; decide +kernel) ⟨by decide, by decide⟩ rfl (Nat.le_of_ble_eq_true rfl) dX1_add_15 (fun v f2 g2 hR => ?_)
  obtain ⟨rfl, h2⟩ := hR
  refine J.eqs (st' := []) rfl ?_
  have hI2 := hI1.nu h2 (by decide)
  have hA := h2.keep h1.2 (by decide)
  refine J.aload_n C dX1_add_18 rfl 0 rfl ?_
  refine J.aload_n C dX1_add_19 rfl 0 rfl ?_
  refine J.get1 C 5 (by decide) q190 dX1_add_20 ?_
  refine J.aload_n C dX1_add_23 rfl 0 rfl ?_
  refine J.get1 C 5 (by decide) q190 dX1_add_24 ?_
  refine J.aload_n C dX1_add_27 rfl 0 rfl ?_
  refine J.get1 C 6 (by decide) q191 dX1_add_28 ?_
  refine J.callV (rest := []) C (m_plus (gk (by decide)) rfl (gk (by decide)) rfl (gk (by decide)) rfl hI2.2.2 (by decide) hA h2.2 (hV _ (rg_lt p)) (hV _ (rg_lt q))) _ rfl q251 q253 qs11 q19 q254 (by show _ = _ ∧ _ ≠ _ ∧ _ ≠ _ ∧ _ = some 3; decide +kernel) ⟨by decide, by decide⟩ rfl (Nat.le_of_ble_eq_true rfl) dX1_add_31 (fun v f3 g3 hR => ?_)
  obtain ⟨rfl, hk3, h3⟩ := hR
  refine J.eqs (st' := []) rfl ?_
  have hI3 := hI2.two hk3 (by decide) (by decide)
  refine J.aload_n C dX1_add_34 rfl 0 rfl ?_
  refine J.iload_n C dX1_add_35 rfl 1 rfl ?_
  refine J.aload_n C dX1_add_36 rfl 0 rfl ?_
  refine J.get1 C 5 (by decide) q190 dX1_add_37 ?_
  refine J.callV (rest := []) C (m_give (gk (by decide)) rfl hI3.1 h3) _ rfl q235 q237 qs9 q19 q238 (by show _ = _ ∧ _ ≠ _ ∧ _ ≠ _ ∧ _ = some 2; decide +kernel) ⟨by decide, by decide⟩ rfl (Nat.le_of_ble_eq_true rfl) dX1_add_40 (fun v f4 g4 hR => ?_)
  obtain ⟨rfl, e4, h4⟩ := hR
  refine J.eqs (st' := []) rfl ?_
  exact J.vret C dX1_add_43 ⟨rfl, hI3.put e4 h4⟩
set_option maxHeartbeats 4000000 in
set_option maxRecDepth 100000 in
theorem m_subtract {l : Launch} {D : va_G} {d dL : ClassId} {a : Nat → Nat} {f : gF} {g : gG} {V : Nat → Nat} {Ln : Nat} {r p q : Int32} (hI : MI V Ln f) (hV : VOK V) : gMet l yX1_subtract cX1_subtract 4 none 3 75 D d dL 1 a [.ref (a 0), .int r, .int p, .int q] f g (fun v f' g' => v = none ∧ MI (va_up V (rg r) ((V (rg p) + PP - V (rg q)) % PP)) Ln f') := by
  refine gMet.of (by decide) (Nat.le_of_ble_eq_true rfl) (fun z C => ?_)
  show J z f g 0 [(0, .ref (a 0)), (1, .int r), (2, .int p), (3, .int q)] []
  refine J.aload_n C dX1_subtract_0 rfl 0 rfl ?_
  refine J.aload_n C dX1_subtract_1 rfl 0 rfl ?_
  refine J.get1 C 5 (by decide) q190 dX1_subtract_2 ?_
  refine J.iload_n C dX1_subtract_5 rfl 2 rfl ?_
  refine J.callV (rest := []) C (m_take (gk (by decide)) rfl hI.1) _ rfl q247 q249 qs10 q19 q250 (by show _ = _ ∧ _ ≠ _ ∧ _ ≠ _ ∧ _ = some 2; decide +kernel) ⟨by decide, by decide⟩ rfl (Nat.le_of_ble_eq_true rfl) dX1_subtract_6 (fun v f1 g1 hR => ?_)
  obtain ⟨rfl, h1⟩ := hR
  refine J.eqs (st' := []) rfl ?_
  have hI1 := hI.nu h1 (by decide)
  refine J.aload_n C dX1_subtract_9 rfl 0 rfl ?_
  refine J.aload_n C dX1_subtract_10 rfl 0 rfl ?_
  refine J.get1 C 6 (by decide) q191 dX1_subtract_11 ?_
  refine J.iload_n C dX1_subtract_14 rfl 3 rfl ?_
  refine J.callV (rest := []) C (m_take (gk (by decide)) rfl hI1.1) _ rfl q247 q249 qs10 q19 q250 (by show _ = _ ∧ _ ≠ _ ∧ _ ≠ _ ∧ _ = some 2; decide +kernel) ⟨by decide, by decide⟩ rfl (Nat.le_of_ble_eq_true rfl) dX1_subtract_15 (fun v f2 g2 hR => ?_)
  obtain ⟨rfl, h2⟩ := hR
  refine J.eqs (st' := []) rfl ?_
  have hI2 := hI1.nu h2 (by decide)
  have hA := h2.keep h1.2 (by decide)
  refine J.aload_n C dX1_subtract_18 rfl 0 rfl ?_
  refine J.aload_n C dX1_subtract_19 rfl 0 rfl ?_
  refine J.get1 C 6 (by decide) q191 dX1_subtract_20 ?_
  refine J.aload_n C dX1_subtract_23 rfl 0 rfl ?_
  refine J.get1 C 6 (by decide) q191 dX1_subtract_24 ?_
  refine J.callV (rest := []) C (m_minus (gk (by decide)) rfl (gk (by decide)) rfl hI2.2.2 (by decide) h2.2 (hV _ (rg_lt q))) _ rfl q259 q261 qs12 q19 q262 (by show _ = _ ∧ _ ≠ _ ∧ _ ≠ _ ∧ _ = some 2; decide +kernel) ⟨by decide, by decide⟩ rfl (Nat.le_of_ble_eq_true rfl) dX1_subtract_27 (fun v f3 g3 hR => ?_)
  obtain ⟨rfl, h3⟩ := hR
  refine J.eqs (st' := []) rfl ?_
  have hI3 := hI2.nu h3 (by decide)
  refine J.aload_n C dX1_subtract_30 rfl 0 rfl ?_
  refine J.aload_n C dX1_subtract_31 rfl 0 rfl ?_
  refine J.get1 C 5 (by decide) q190 dX1_subtract_32 ?_
  refine J.aload_n C dX1_subtract_35 rfl 0 rfl ?_
  refine J.get1 C 5 (by decide) q190 dX1_subtract_36 ?_
  refine J.aload_n C dX1_subtract_39 rfl 0 rfl ?_
  refine J.get1 C 6 (by decide) q191 dX1_subtract_40 ?_
  refine J.callV (rest := []) C (m_plus (gk (by decide)) rfl (gk (by decide)) rfl (gk (by decide)) rfl hI3.2.2 (by decide) (h3.keep hA (by decide)) h3.2 (hV _ (rg_lt p)) (Nat.mod_lt _ PP_pos)) _ rfl q251 q253 qs11 q19 q254 (by show _ = _ ∧ _ ≠ _ ∧ _ ≠ _ ∧ _ = some 3; decide +kernel) ⟨by decide, by decide⟩ rfl (Nat.le_of_ble_eq_true rfl) dX1_subtract_43 (fun v f4 g4 hR => ?_)
  obtain ⟨rfl, hk4, h4⟩ := hR
  refine J.eqs (st' := []) rfl ?_
  have hI4 := hI3.two hk4 (by decide) (by decide)
  rw [ms_sub (hV _ (rg_lt q))] at h4
  refine J.aload_n C dX1_subtract_46 rfl 0 rfl ?_
  refine J.iload_n C dX1_subtract_47 rfl 1 rfl ?_
  refine J.aload_n C dX1_subtract_48 rfl 0 rfl ?_
  refine J.get1 C 5 (by decide) q190 dX1_subtract_49 ?_
  refine J.callV (rest := []) C (m_give (gk (by decide)) rfl hI4.1 h4) _ rfl q235 q237 qs9 q19 q238 (by show _ = _ ∧ _ ≠ _ ∧ _ ≠ _ ∧ _ = some 2; decide +kernel) ⟨by decide, by decide⟩ rfl (Nat.le_of_ble_eq_true rfl) dX1_subtract_52 (fun v f5 g5 hR => ?_)
  obtain ⟨rfl, e5, h5⟩ := hR
  refine J.eqs (st' := []) rfl ?_
  exact J.vret C dX1_subtract_55 ⟨rfl, hI4.put e5 h5⟩
set_option maxHeartbeats 4000000 in
set_option maxRecDepth 100000 in
theorem m_multiply {l : Launch} {D : va_G} {d dL : ClassId} {a : Nat → Nat} {f : gF} {g : gG} {V : Nat → Nat} {Ln : Nat} {r p q : Int32} (hI : MI V Ln f) (hV : VOK V) : gMet l yX1_multiply cX1_multiply 4 none 3 75 D d dL 1 a [.ref (a 0), .int r, .int p, .int q] f g (fun v f' g' => v = none ∧ MI (va_up V (rg r) ((V (rg p) * V (rg q)) % PP)) Ln f') := by
  refine gMet.of (by decide) (Nat.le_of_ble_eq_true rfl) (fun z C => ?_)
  show J z f g 0 [(0, .ref (a 0)), (1, .int r), (2, .int p), (3, .int q)] []
  refine J.aload_n C dX1_multiply_0 rfl 0 rfl ?_
  refine J.aload_n C dX1_multiply_1 rfl 0 rfl ?_
  refine J.get1 C 5 (by decide) q190 dX1_multiply_2 ?_
  refine J.iload_n C dX1_multiply_5 rfl 2 rfl ?_
  refine J.callV (rest := []) C (m_take (gk (by decide)) rfl hI.1) _ rfl q247 q249 qs10 q19 q250 (by show _ = _ ∧ _ ≠ _ ∧ _ ≠ _ ∧ _ = some 2; decide +kernel) ⟨by decide, by decide⟩ rfl (Nat.le_of_ble_eq_true rfl) dX1_multiply_6 (fun v f1 g1 hR => ?_)
  obtain ⟨rfl, h1⟩ := hR
  refine J.eqs (st' := []) rfl ?_
  have hI1 := hI.nu h1 (by decide)
  refine J.aload_n C dX1_multiply_9 rfl 0 rfl ?_
  refine J.aload_n C dX1_multiply_10 rfl 0 rfl ?_
  refine J.get1 C 6 (by decide) q191 dX1_multiply_11 ?_
  refine J.iload_n C dX1_multiply_14 rfl 3 rfl ?_
  refine J.callV (rest := []) C (m_take (gk (by decide)) rfl hI1.1) _ rfl q247 q249 qs10 q19 q250 (by show _ = _ ∧ _ ≠ _ ∧ _ ≠ _ ∧ _ = some 2; decide +kernel) ⟨by decide, by decide⟩ rfl (Nat.le_of_ble_eq_true rfl) dX1_multiply_15 (fun v f2 g2 hR => ?_)
  obtain ⟨rfl, h2⟩ := hR
  refine J.eqs (st' := []) rfl ?_
  have hI2 := hI1.nu h2 (by decide)
  have hA := h2.keep h1.2 (by decide)
  refine J.aload_n C dX1_multiply_18 rfl 0 rfl ?_
  refine J.aload_n C dX1_multiply_19 rfl 0 rfl ?_
  refine J.get1 C 5 (by decide) q190 dX1_multiply_20 ?_
  refine J.aload_n C dX1_multiply_23 rfl 0 rfl ?_
  refine J.get1 C 6 (by decide) q191 dX1_multiply_24 ?_
  refine J.callV (rest := []) C (m_times (gk (by decide)) rfl (gk (by decide)) rfl (by decide) (by decide) hI2.2.2 hA h2.2 (hV _ (rg_lt p)) (hV _ (rg_lt q))) _ rfl q271 q273 qs14 q19 q274 (by show _ = _ ∧ _ ≠ _ ∧ _ ≠ _ ∧ _ = some 2; decide +kernel) ⟨by decide, by decide⟩ rfl (Nat.le_of_ble_eq_true rfl) dX1_multiply_27 (fun v f3 g3 hR => ?_)
  obtain ⟨rfl, hk3, h3⟩ := hR
  refine J.eqs (st' := []) rfl ?_
  have hI3 := hI2.two hk3 (by decide) (by decide)
  refine J.aload_n C dX1_multiply_30 rfl 0 rfl ?_
  refine J.iload_n C dX1_multiply_31 rfl 1 rfl ?_
  refine J.aload_n C dX1_multiply_32 rfl 0 rfl ?_
  refine J.get1 C 7 (by decide) q192 dX1_multiply_33 ?_
  refine J.callV (rest := []) C (m_give (gk (by decide)) rfl hI3.1 h3) _ rfl q235 q237 qs9 q19 q238 (by show _ = _ ∧ _ ≠ _ ∧ _ ≠ _ ∧ _ = some 2; decide +kernel) ⟨by decide, by decide⟩ rfl (Nat.le_of_ble_eq_true rfl) dX1_multiply_36 (fun v f4 g4 hR => ?_)
  obtain ⟨rfl, e4, h4⟩ := hR
  refine J.eqs (st' := []) rfl ?_
  exact J.vret C dX1_multiply_39 ⟨rfl, hI3.put e4 h4⟩
set_option maxHeartbeats 4000000 in
set_option maxRecDepth 100000 in
theorem m_square {l : Launch} {D : va_G} {d dL : ClassId} {a : Nat → Nat} {f : gF} {g : gG} {V : Nat → Nat} {Ln : Nat} {r p : Int32} (hI : MI V Ln f) (hV : VOK V) : gMet l yX1_square cX1_square 3 none 3 75 D d dL 1 a [.ref (a 0), .int r, .int p] f g (fun v f' g' => v = none ∧ MI (va_up V (rg r) ((V (rg p) * V (rg p)) % PP)) Ln f') := by
  refine gMet.of (by decide) (Nat.le_of_ble_eq_true rfl) (fun z C => ?_)
  show J z f g 0 [(0, .ref (a 0)), (1, .int r), (2, .int p)] []
  refine J.aload_n C dX1_square_0 rfl 0 rfl ?_
  refine J.aload_n C dX1_square_1 rfl 0 rfl ?_
  refine J.get1 C 5 (by decide) q190 dX1_square_2 ?_
  refine J.iload_n C dX1_square_5 rfl 2 rfl ?_
  refine J.callV (rest := []) C (m_take (gk (by decide)) rfl hI.1) _ rfl q247 q249 qs10 q19 q250 (by show _ = _ ∧ _ ≠ _ ∧ _ ≠ _ ∧ _ = some 2; decide +kernel) ⟨by decide, by decide⟩ rfl (Nat.le_of_ble_eq_true rfl) dX1_square_6 (fun v f1 g1 hR => ?_)
  obtain ⟨rfl, h1⟩ := hR
  refine J.eqs (st' := []) rfl ?_
  have hI1 := hI.nu h1 (by decide)
  refine J.aload_n C dX1_square_9 rfl 0 rfl ?_
  refine J.aload_n C dX1_square_10 rfl 0 rfl ?_
  refine J.get1 C 5 (by decide) q190 dX1_square_11 ?_
  refine J.aload_n C dX1_square_14 rfl 0 rfl ?_
  refine J.get1 C 5 (by decide) q190 dX1_square_15 ?_
  refine J.callV (rest := []) C (m_times (gk (by decide)) rfl (gk (by decide)) rfl (by decide) (by decide) hI1.2.2 h1.2 h1.2 (hV _ (rg_lt p)) (hV _ (rg_lt p))) _ rfl q271 q273 qs14 q19 q274 (by show _ = _ ∧ _ ≠ _ ∧ _ ≠ _ ∧ _ = some 2; decide +kernel) ⟨by decide, by decide⟩ rfl (Nat.le_of_ble_eq_true rfl) dX1_square_18 (fun v f3 g3 hR => ?_)
  obtain ⟨rfl, hk3, h3⟩ := hR
  refine J.eqs (st' := []) rfl ?_
  have hI3 := hI1.two hk3 (by decide) (by decide)
  refine J.aload_n C dX1_square_21 rfl 0 rfl ?_
  refine J.iload_n C dX1_square_22 rfl 1 rfl ?_
  refine J.aload_n C dX1_square_23 rfl 0 rfl ?_
  refine J.get1 C 7 (by decide) q192 dX1_square_24 ?_
  refine J.callV (rest := []) C (m_give (gk (by decide)) rfl hI3.1 h3) _ rfl q235 q237 qs9 q19 q238 (by show _ = _ ∧ _ ≠ _ ∧ _ ≠ _ ∧ _ = some 2; decide +kernel) ⟨by decide, by decide⟩ rfl (Nat.le_of_ble_eq_true rfl) dX1_square_27 (fun v f4 g4 hR => ?_)
  obtain ⟨rfl, e4, h4⟩ := hR
  refine J.eqs (st' := []) rfl ?_
  exact J.vret C dX1_square_30 ⟨rfl, hI3.put e4 h4⟩
set_option maxHeartbeats 4000000 in
set_option maxRecDepth 100000 in
theorem m_twice {l : Launch} {D : va_G} {d dL : ClassId} {a : Nat → Nat} {f : gF} {g : gG} {V : Nat → Nat} {Ln : Nat} {r p : Int32} (hI : MI V Ln f) (hV : VOK V) : gMet l yX1_twice cX1_twice 3 none 3 75 D d dL 1 a [.ref (a 0), .int r, .int p] f g (fun v f' g' => v = none ∧ MI (va_up V (rg r) ((V (rg p) + V (rg p)) % PP)) Ln f') := by
  refine gMet.of (by decide) (Nat.le_of_ble_eq_true rfl) (fun z C => ?_)
  show J z f g 0 [(0, .ref (a 0)), (1, .int r), (2, .int p)] []
  refine J.aload_n C dX1_twice_0 rfl 0 rfl ?_
  refine J.aload_n C dX1_twice_1 rfl 0 rfl ?_
  refine J.get1 C 5 (by decide) q190 dX1_twice_2 ?_
  refine J.iload_n C dX1_twice_5 rfl 2 rfl ?_
  refine J.callV (rest := []) C (m_take (gk (by decide)) rfl hI.1) _ rfl q247 q249 qs10 q19 q250 (by show _ = _ ∧ _ ≠ _ ∧ _ ≠ _ ∧ _ = some 2; decide +kernel) ⟨by decide, by decide⟩ rfl (Nat.le_of_ble_eq_true rfl) dX1_twice_6 (fun v f1 g1 hR => ?_)
  obtain ⟨rfl, h1⟩ := hR
  refine J.eqs (st' := []) rfl ?_
  have hI1 := hI.nu h1 (by decide)
  refine J.aload_n C dX1_twice_9 rfl 0 rfl ?_
  refine J.aload_n C dX1_twice_10 rfl 0 rfl ?_
  refine J.get1 C 5 (by decide) q190 dX1_twice_11 ?_
  refine J.aload_n C dX1_twice_14 rfl 0 rfl ?_
  refine J.get1 C 5 (by decide) q190 dX1_twice_15 ?_
  refine J.aload_n C dX1_twice_18 rfl 0 rfl ?_
  refine J.get1 C 5 (by decide) q190 dX1_twice_19 ?_
  refine J.callV (rest := []) C (m_plus (gk (by decide)) rfl (gk (by decide)) rfl (gk (by decide)) rfl hI1.2.2 (by decide) h1.2 h1.2 (hV _ (rg_lt p)) (hV _ (rg_lt p))) _ rfl q251 q253 qs11 q19 q254 (by show _ = _ ∧ _ ≠ _ ∧ _ ≠ _ ∧ _ = some 3; decide +kernel) ⟨by decide, by decide⟩ rfl (Nat.le_of_ble_eq_true rfl) dX1_twice_22 (fun v f3 g3 hR => ?_)
  obtain ⟨rfl, hk3, h3⟩ := hR
  refine J.eqs (st' := []) rfl ?_
  have hI3 := hI1.two hk3 (by decide) (by decide)
  refine J.aload_n C dX1_twice_25 rfl 0 rfl ?_
  refine J.iload_n C dX1_twice_26 rfl 1 rfl ?_
  refine J.aload_n C dX1_twice_27 rfl 0 rfl ?_
  refine J.get1 C 5 (by decide) q190 dX1_twice_28 ?_
  refine J.callV (rest := []) C (m_give (gk (by decide)) rfl hI3.1 h3) _ rfl q235 q237 qs9 q19 q238 (by show _ = _ ∧ _ ≠ _ ∧ _ ≠ _ ∧ _ = some 2; decide +kernel) ⟨by decide, by decide⟩ rfl (Nat.le_of_ble_eq_true rfl) dX1_twice_31 (fun v f4 g4 hR => ?_)
  obtain ⟨rfl, e4, h4⟩ := hR
  refine J.eqs (st' := []) rfl ?_
  exact J.vret C dX1_twice_34 ⟨rfl, hI3.put e4 h4⟩
set_option maxHeartbeats 4000000 in
set_option maxRecDepth 100000 in
theorem m_negate {l : Launch} {D : va_G} {d dL : ClassId} {a : Nat → Nat} {f : gF} {g : gG} {V : Nat → Nat} {Ln : Nat} {r p : Int32} (hI : MI V Ln f) (hV : VOK V) : gMet l yX1_negate cX1_negate 3 none 3 75 D d dL 1 a [.ref (a 0), .int r, .int p] f g (fun v f' g' => v = none ∧ MI (va_up V (rg r) ((0 + PP - V (rg p)) % PP)) Ln f') := by
  refine gMet.of (by decide) (Nat.le_of_ble_eq_true rfl) (fun z C => ?_)
  show J z f g 0 [(0, .ref (a 0)), (1, .int r), (2, .int p)] []
  refine J.aload_n C dX1_negate_0 rfl 0 rfl ?_
  refine J.aload_n C dX1_negate_1 rfl 0 rfl ?_
  refine J.get1 C 5 (by decide) q190 dX1_negate_2 ?_
  refine J.iload_n C dX1_negate_5 rfl 2 rfl ?_
  refine J.callV (rest := []) C (m_take (gk (by decide)) rfl hI.1) _ rfl q247 q249 qs10 q19 q250 (by show _ = _ ∧ _ ≠ _ ∧ _ ≠ _ ∧ _ = some 2; decide +kernel) ⟨by decide, by decide⟩ rfl (Nat.le_of_ble_eq_true rfl) dX1_negate_6 (fun v f1 g1 hR => ?_)
  obtain ⟨rfl, h1⟩ := hR
  refine J.eqs (st' := []) rfl ?_
  have hI1 := hI.nu h1 (by decide)
  refine J.aload_n C dX1_negate_9 rfl 0 rfl ?_
  refine J.aload_n C dX1_negate_10 rfl 0 rfl ?_
  refine J.get1 C 5 (by decide) q190 dX1_negate_11 ?_
  refine J.aload_n C dX1_negate_14 rfl 0 rfl ?_
  refine J.get1 C 5 (by decide) q190 dX1_negate_15 ?_
  refine J.callV (rest := []) C (m_minus (gk (by decide)) rfl (gk (by decide)) rfl hI1.2.2 (by decide) h1.2 (hV _ (rg_lt p))) _ rfl q259 q261 qs12 q19 q262 (by show _ = _ ∧ _ ≠ _ ∧ _ ≠ _ ∧ _ = some 2; decide +kernel) ⟨by decide, by decide⟩ rfl (Nat.le_of_ble_eq_true rfl) dX1_negate_18 (fun v f3 g3 hR => ?_)
  obtain ⟨rfl, h3⟩ := hR
  refine J.eqs (st' := []) rfl ?_
  have hI3 := hI1.nu h3 (by decide)
  have h3' := h3.2
  refine J.aload_n C dX1_negate_21 rfl 0 rfl ?_
  refine J.iload_n C dX1_negate_22 rfl 1 rfl ?_
  refine J.aload_n C dX1_negate_23 rfl 0 rfl ?_
  refine J.get1 C 5 (by decide) q190 dX1_negate_24 ?_
  refine J.callV (rest := []) C (m_give (gk (by decide)) rfl hI3.1 h3.2) _ rfl q235 q237 qs9 q19 q238 (by show _ = _ ∧ _ ≠ _ ∧ _ ≠ _ ∧ _ = some 2; decide +kernel) ⟨by decide, by decide⟩ rfl (Nat.le_of_ble_eq_true rfl) dX1_negate_27 (fun v f4 g4 hR => ?_)
  obtain ⟨rfl, e4, h4⟩ := hR
  refine J.eqs (st' := []) rfl ?_
  refine J.vret C dX1_negate_30 ⟨rfl, ?_⟩
  rw [Nat.zero_add]
  exact hI3.put e4 h4
set_option maxHeartbeats 4000000 in
set_option maxRecDepth 100000 in
theorem m_zero {l : Launch} {D : va_G} {d dL : ClassId} {a : Nat → Nat} {f : gF} {g : gG} {V : Nat → Nat} {Ln : Nat} {p : Int32} (hI : MI V Ln f) (hV : VOK V) : gMet l yX1_zero cX1_zero 2 (some .boolean) 3 75 D d dL 1 a [.ref (a 0), .int p] f g (fun v f' g' => v = some (.int (tf (V (rg p) = 0))) ∧ MI V Ln f') := by
  refine gMet.of (by decide) (Nat.le_of_ble_eq_true rfl) (fun z C => ?_)
  show J z f g 0 [(0, .ref (a 0)), (1, .int p)] []
  refine J.aload_n C dX1_zero_0 rfl 0 rfl ?_
  refine J.aload_n C dX1_zero_1 rfl 0 rfl ?_
  refine J.get1 C 5 (by decide) q190 dX1_zero_2 ?_
  refine J.iload_n C dX1_zero_5 rfl 1 rfl ?_
  refine J.callV (rest := []) C (m_take (gk (by decide)) rfl hI.1) _ rfl q247 q249 qs10 q19 q250 (by show _ = _ ∧ _ ≠ _ ∧ _ ≠ _ ∧ _ = some 2; decide +kernel) ⟨by decide, by decide⟩ rfl (Nat.le_of_ble_eq_true rfl) dX1_zero_6 (fun v f1 g1 hR => ?_)
  obtain ⟨rfl, h1⟩ := hR
  refine J.eqs (st' := []) rfl ?_
  have hI1 := hI.nu h1 (by decide)
  refine J.aload_n C dX1_zero_9 rfl 0 rfl ?_
  refine J.aload_n C dX1_zero_10 rfl 0 rfl ?_
  refine J.get1 C 5 (by decide) q190 dX1_zero_11 ?_
  refine J.callV (rest := []) C (m_isZero (gk (by decide)) rfl h1.2 (Nat.lt_trans (hV _ (rg_lt p)) P24)) _ rfl q263 q265 qs13 q19 q266 (by show _ = _ ∧ _ ≠ _ ∧ _ ≠ _ ∧ _ = some 1; decide +kernel) ⟨by decide, by decide⟩ rfl (Nat.le_of_ble_eq_true rfl) dX1_zero_14 (fun v f2 g2 hR => ?_)
  obtain ⟨rfl, rfl⟩ := hR
  refine J.eqs (st' := [.int _]) rfl ?_
  exact J.zret C tf_nar dX1_zero_17 ⟨rfl, hI1⟩
set_option maxHeartbeats 4000000 in
set_option maxRecDepth 100000 in
theorem m_squares {l : Launch} {D : va_G} {d dL : ClassId} {a : Nat → Nat} {f : gF} {g : gG} {V : Nat → Nat} {Ln : Nat} {r p n : Int32} (hI : MI V Ln f) (hV : VOK V) : gMet l yX1_squares cX1_squares 5 none 3 75 D d dL 1 a [.ref (a 0), .int r, .int p, .int n] f g (fun v f' g' => v = none ∧ MI (va_up V (rg r) (sqs (V (rg p)) (un n % 16 + 1))) Ln f') := by
  refine gMet.of (by decide) (Nat.le_of_ble_eq_true rfl) (fun z C => ?_)
  show J z f g 0 [(0, .ref (a 0)), (1, .int r), (2, .int p), (3, .int n)] []
  refine J.aload_n C dX1_squares_0 rfl 0 rfl ?_
  refine J.aload_n C dX1_squares_1 rfl 0 rfl ?_
  refine J.get1 C 5 (by decide) q190 dX1_squares_2 ?_
  refine J.iload_n C dX1_squares_5 rfl 2 rfl ?_
  refine J.callV (rest := []) C (m_take (gk (by decide)) rfl hI.1) _ rfl q247 q249 qs10 q19 q250 (by show _ = _ ∧ _ ≠ _ ∧ _ ≠ _ ∧ _ = some 2; decide +kernel) ⟨by decide, by decide⟩ rfl (Nat.le_of_ble_eq_true rfl) dX1_squares_6 (fun v f1 g1 hR => ?_)
  obtain ⟨rfl, h1⟩ := hR
  refine J.eqs (st' := []) rfl ?_
  have hI1 := hI.nu h1 (by decide)
  refine J.iconst (v := nI 0) C dX1_squares_9 (by decide) ?_
  refine J.istore (lv' := [(4, .int _), (0, .ref _), (1, .int _), (2, .int _), (3, .int _)]) C dX1_squares_10 (by decide) rfl ?_
  refine J.perm (lv' := [(0, .ref _), (1, .int _), (3, .int _), (4, .int _)]) [1, 2, 4, 0] rfl ?_
  have h16 : un n % 16 < 16 := Nat.mod_lt _ (by decide)
  refine J.loop (head := 12) (un n % 16 + 1) (fun k f' g' => MI V Ln f' ∧ Rd 65536 24 (f' 6) (sqs (V (rg p)) k)) (fun k => [(0, .ref (a 0)), (1, .int r), (3, .int n), (4, .int (nI k))]) ?_ ?_ (un n % 16 + 1) 0 _ _ (Nat.zero_add _) ⟨hI1, h1.2⟩
  · intro f2 g2 hQ
    obtain ⟨hI2, h2⟩ := hQ
    refine J.iload C dX1_squares_12 3 rfl ?_
    refine J.iload_n C dX1_squares_14 rfl 2 rfl ?_
    refine J.bipush (v := nI 15) C dX1_squares_15 (by decide) ?_
    refine J.iand C dX1_squares_17 ?_
    refine J.eqi (w_and15 n) ?_
    refine J.ncmp_gt (tgt := 51) C dX1_squares_18 (by decide) (by first | omega | exact d16 _ _) (by first | omega | exact d16 _ _) (fun h => ?_) (fun h => ?_)
    · refine J.aload_n C dX1_squares_51 rfl 0 rfl ?_
      refine J.iload_n C dX1_squares_52 rfl 1 rfl ?_
      refine J.aload_n C dX1_squares_53 rfl 0 rfl ?_
      refine J.get1 C 5 (by decide) q190 dX1_squares_54 ?_
      refine J.callV (rest := []) C (m_give (gk (by decide)) rfl hI2.1 h2) _ rfl q235 q237 qs9 q19 q238 (by show _ = _ ∧ _ ≠ _ ∧ _ ≠ _ ∧ _ = some 2; decide +kernel) ⟨by decide, by decide⟩ rfl (Nat.le_of_ble_eq_true rfl) dX1_squares_57 (fun v f3 g3 hR => ?_)
      obtain ⟨rfl, e3, h3⟩ := hR
      refine J.eqs (st' := []) rfl ?_
      exact J.vret C dX1_squares_60 ⟨rfl, hI2.put e3 h3⟩
    · exact absurd h (by omega)
  · intro k f2 g2 hk hQ ih
    obtain ⟨hI2, h2⟩ := hQ
    refine J.iload C dX1_squares_12 3 rfl ?_
    refine J.iload_n C dX1_squares_14 rfl 2 rfl ?_
    refine J.bipush (v := nI 15) C dX1_squares_15 (by decide) ?_
    refine J.iand C dX1_squares_17 ?_
    refine J.eqi (w_and15 n) ?_
    refine J.ncmp_gt (tgt := 51) C dX1_squares_18 (by decide) (by first | omega | exact d16 _ _) (by first | omega | exact d16 _ _) (fun h => ?_) (fun h => ?_)
    · exact absurd h (by omega)
    · have hs := sqs_lt (hV _ (rg_lt p)) k
      refine J.aload_n C dX1_squares_21 rfl 0 rfl ?_
      refine J.aload_n C dX1_squares_22 rfl 0 rfl ?_
      refine J.get1 C 5 (by decide) q190 dX1_squares_23 ?_
      refine J.aload_n C dX1_squares_26 rfl 0 rfl ?_
      refine J.get1 C 5 (by decide) q190 dX1_squares_27 ?_
      refine J.callV (rest := []) C (m_times (gk (by decide)) rfl (gk (by decide)) rfl (by decide) (by decide) hI2.2.2 h2 h2 hs hs) _ rfl q271 q273 qs14 q19 q274 (by show _ = _ ∧ _ ≠ _ ∧ _ ≠ _ ∧ _ = some 2; decide +kernel) ⟨by decide, by decide⟩ rfl (Nat.le_of_ble_eq_true rfl) dX1_squares_30 (fun v f3 g3 hR => ?_)
      obtain ⟨rfl, hk3, h3⟩ := hR
      refine J.eqs (st' := []) rfl ?_
      have hI3 := hI2.two hk3 (by decide) (by decide)
      refine J.aload_n C dX1_squares_33 rfl 0 rfl ?_
      refine J.aload_n C dX1_squares_34 rfl 0 rfl ?_
      refine J.get1 C 5 (by decide) q190 dX1_squares_35 ?_
      refine J.aload_n C dX1_squares_38 rfl 0 rfl ?_
      refine J.get1 C 7 (by decide) q192 dX1_squares_39 ?_
      refine J.callV (rest := []) C (m_copy (gk (by decide)) rfl (gk (by decide)) rfl h3) _ rfl q283 q285 qs15 q19 q286 (by show _ = _ ∧ _ ≠ _ ∧ _ ≠ _ ∧ _ = some 2; decide +kernel) ⟨by decide, by decide⟩ rfl (Nat.le_of_ble_eq_true rfl) dX1_squares_42 (fun v f4 g4 hR => ?_)
      obtain ⟨rfl, h4⟩ := hR
      refine J.eqs (st' := []) rfl ?_
      have hI4 := hI3.nu h4 (by decide)
      refine J.inc (lv' := [(4, .int _), (0, .ref _), (1, .int _), (3, .int _)]) C dX1_squares_45 3 rfl (by decide) rfl ?_
      refine J.goto (tgt := 12) C dX1_squares_48 (by decide) ?_
      refine J.perm (lv' := [(0, .ref _), (1, .int _), (3, .int _), (4, .int _)]) [1, 2, 3, 0] rfl ?_
      exact ih _ _ ⟨hI4, h4.2⟩
theorem hf_q {A Q : Nat} (hQ : Q = if A % 2 = 1 then PP else 0) : (A + Q) / 2 = hf A := by
  unfold hf
  rcases Nat.mod_two_eq_zero_or_one A with h | h
  · rw [hQ, if_neg (by omega), if_pos h, Nat.add_zero]
  · rw [hQ, if_pos h, if_neg (by omega)]
set_option maxHeartbeats 4000000 in
set_option maxRecDepth 100000 in
theorem m_halve {l : Launch} {D : va_G} {d dL : ClassId} {a : Nat → Nat} {f : gF} {g : gG} {V : Nat → Nat} {Ln : Nat} {r p : Int32} (hI : MI V Ln f) (hV : VOK V) : gMet l yX1_halve cX1_halve 7 none 3 75 D d dL 1 a [.ref (a 0), .int r, .int p] f g (fun v f' g' => v = none ∧ MI (va_up V (rg r) (hf (V (rg p)))) Ln f') := by
  refine gMet.of (by decide) (Nat.le_of_ble_eq_true rfl) (fun z C => ?_)
  show J z f g 0 [(0, .ref (a 0)), (1, .int r), (2, .int p)] []
  refine J.aload_n C dX1_halve_0 rfl 0 rfl ?_
  refine J.aload_n C dX1_halve_1 rfl 0 rfl ?_
  refine J.get1 C 5 (by decide) q190 dX1_halve_2 ?_
  refine J.iload_n C dX1_halve_5 rfl 2 rfl ?_
  refine J.callV (rest := []) C (m_take (gk (by decide)) rfl hI.1) _ rfl q247 q249 qs10 q19 q250 (by show _ = _ ∧ _ ≠ _ ∧ _ ≠ _ ∧ _ = some 2; decide +kernel) ⟨by decide, by decide⟩ rfl (Nat.le_of_ble_eq_true rfl) dX1_halve_6 (fun v f1 g1 hR => ?_)
  obtain ⟨rfl, h1⟩ := hR
  refine J.eqs (st' := []) rfl ?_
  have hI1 := hI.nu h1 (by decide)
  obtain ⟨Q, eQ⟩ : ∃ Q, Q = if V (rg p) % 2 = 1 then PP else 0 := ⟨_, rfl⟩
  have lA := hV _ (rg_lt p)
  have lQ : Q ≤ PP := by rw [eQ]; split <;> omega
  have hT : nI (cr 65536 (V (rg p)) Q 24) = nI (dgt 65536 (V (rg p) + Q) 24) := by rw [(fo_top (show V (rg p) + Q < 2 * PP by omega)).1, cr_top (Nat.lt_trans lA P24) (Nat.lt_of_le_of_lt lQ P24)]
  have tail : ∀ gS : gG, J z f1 gS 27 [(0, .ref (a 0)), (1, .int r), (3, .int (nI (cr 65536 (V (rg p)) Q 0)))] [.int (tf (V (rg p) % 2 = 1))] := by
    intro gS
    refine J.istore (lv' := [(4, .int _), (0, .ref _), (1, .int _), (3, .int _)]) C dX1_halve_27 (by decide) rfl ?_
    refine J.iconst (v := nI 0) C dX1_halve_29 (by decide) ?_
    refine J.istore (lv' := [(5, .int _), (4, .int _), (0, .ref _), (1, .int _), (3, .int _)]) C dX1_halve_30 (by decide) rfl ?_
    refine J.perm (lv' := [(0, .ref _), (1, .int _), (3, .int _), (4, .int _), (5, .int _)]) [2, 3, 4, 1, 0] rfl ?_
    refine J.loop (head := 32) 24 (fun k f' g' => fil f1 5 0 (fun j => nI (dgt 65536 (V (rg p) + Q) j)) k f') (fun k => [(0, .ref (a 0)), (1, .int r), (3, .int (nI (cr 65536 (V (rg p)) Q k))), (4, .int (tf (V (rg p) % 2 = 1))), (5, .int (nI k))]) ?_ ?_ 24 0 _ _ rfl fil.zero
    · intro f' g' hF
      obtain hF := hF
      refine J.iload C dX1_halve_32 4 rfl ?_
      refine J.bipush (v := nI 24) C dX1_halve_34 (by decide) ?_
      refine J.ncmp_ge (tgt := 91) C dX1_halve_36 (by decide) (by first | omega | exact d16 _ _) (by first | omega | exact d16 _ _) (fun h => ?_) (fun h => ?_)
      · refine J.aload_n C dX1_halve_91 rfl 0 rfl ?_
        refine J.get1 C 4 (by decide) q189 dX1_halve_92 ?_
        refine J.bipush (v := nI 24) C dX1_halve_95 (by decide) ?_
        refine J.iload_n C dX1_halve_97 rfl 2 rfl ?_
        refine J.fast C hF (gk (by decide)) (Nat.zero_add 24).symm (by show _ < 25; omega) hT dX1_halve_98 (fun f2 hF => ?_)
        have hs2 : Rd 65536 25 (f2 5) (V (rg p) + Q) := hF.rd
        have hI2 := hI1.fil hF (by decide)
        refine J.iconst (v := nI 0) C dX1_halve_99 (by decide) ?_
        refine J.istore (lv' := [(5, .int _), (0, .ref _), (1, .int _), (3, .int _), (4, .int _)]) C dX1_halve_100 (by decide) rfl ?_
        refine J.perm (lv' := [(0, .ref _), (1, .int _), (5, .int _)]) [1, 2, 0] rfl ?_
        refine J.loop (head := 102) 24 (fun k f' g' => fil f2 6 0 (fun j => nI (dgt 65536 ((V (rg p) + Q) / 2) j)) k f') (fun k => [(0, .ref (a 0)), (1, .int r), (5, .int (nI k))]) ?_ ?_ 24 0 _ _ rfl fil.zero
        · intro f' g' hG
          obtain hG := hG
          refine J.iload C dX1_halve_102 2 rfl ?_
          refine J.bipush (v := nI 24) C dX1_halve_104 (by decide) ?_
          refine J.ncmp_ge (tgt := 146) C dX1_halve_106 (by decide) (by first | omega | exact d16 _ _) (by first | omega | exact d16 _ _) (fun h => ?_) (fun h => ?_)
          · have hI3 := hI2.fil hG (by decide)
            have h3 := hG.nu.val (hf_q eQ)
            refine J.aload_n C dX1_halve_146 rfl 0 rfl ?_
            refine J.iload_n C dX1_halve_147 rfl 1 rfl ?_
            refine J.aload_n C dX1_halve_148 rfl 0 rfl ?_
            refine J.get1 C 5 (by decide) q190 dX1_halve_149 ?_
            refine J.callV (rest := []) C (m_give (gk (by decide)) rfl hI3.1 h3.2) _ rfl q235 q237 qs9 q19 q238 (by show _ = _ ∧ _ ≠ _ ∧ _ ≠ _ ∧ _ = some 2; decide +kernel) ⟨by decide, by decide⟩ rfl (Nat.le_of_ble_eq_true rfl) dX1_halve_152 (fun v f4 g4 hR => ?_)
            obtain ⟨rfl, e4, h4⟩ := hR
            refine J.eqs (st' := []) rfl ?_
            exact J.vret C dX1_halve_155 ⟨rfl, hI3.put e4 h4⟩
          · exact absurd h (by omega)
        · intro k f' g' hk hG ih
          obtain hG := hG
          refine J.iload C dX1_halve_102 2 rfl ?_
          refine J.bipush (v := nI 24) C dX1_halve_104 (by decide) ?_
          refine J.ncmp_ge (tgt := 146) C dX1_halve_106 (by decide) (by first | omega | exact d16 _ _) (by first | omega | exact d16 _ _) (fun h => ?_) (fun h => ?_)
          · exact absurd h (by omega)
          · refine J.aload_n C dX1_halve_109 rfl 0 rfl ?_
            refine J.get1 C 5 (by decide) q190 dX1_halve_110 ?_
            refine J.iload C dX1_halve_113 2 rfl ?_
            refine J.aload_n C dX1_halve_115 rfl 0 rfl ?_
            refine J.get1 C 4 (by decide) q189 dX1_halve_116 ?_
            refine J.iload C dX1_halve_119 2 rfl ?_
            refine J.iald C (gk (by decide)) (by show _ < 25; omega) dX1_halve_121 ?_
            refine J.eqi (y := nI (dgt 65536 (V (rg p) + Q) k)) (by rw [hG.other (by decide)]; exact hs2 k (by omega)) ?_
            refine J.iconst (v := nI 1) C dX1_halve_122 (by decide) ?_
            refine J.ishr C dX1_halve_123 ?_
            refine J.aload_n C dX1_halve_124 rfl 0 rfl ?_
            refine J.get1 C 4 (by decide) q189 dX1_halve_125 ?_
            refine J.iload C dX1_halve_128 2 rfl ?_
            refine J.iconst (v := nI 1) C dX1_halve_130 (by decide) ?_
            refine J.iadd C dX1_halve_131 ?_
            refine J.eqi (w_add k 1) ?_
            refine J.iald C (gk (by decide)) (by show _ < 25; omega) dX1_halve_132 ?_
            refine J.eqi (y := nI (dgt 65536 (V (rg p) + Q) (k + 1))) (by rw [hG.other (by decide)]; exact hs2 (k + 1) (by omega)) ?_
            refine J.iconst (v := nI 1) C dX1_halve_133 (by decide) ?_
            refine J.iand C dX1_halve_134 ?_
            refine J.bipush (v := nI 15) C dX1_halve_135 (by decide) ?_
            refine J.ishl C dX1_halve_137 ?_
            refine J.ior C dX1_halve_138 ?_
            refine J.eqi (w_half16 (dgt_lt okb16 _ _) (dgt_lt okb16 _ _)) ?_
            refine J.fast C hG (gk (by decide)) (Nat.zero_add k).symm (by show _ < 24; omega) (by rw [dgt_half okb16]) dX1_halve_139 (fun f' hG => ?_)
            refine J.inc (lv' := [(5, .int _), (0, .ref _), (1, .int _)]) C dX1_halve_140 2 rfl (by decide) rfl ?_
            refine J.goto (tgt := 102) C dX1_halve_143 (by decide) ?_
            refine J.perm (lv' := [(0, .ref _), (1, .int _), (5, .int _)]) [1, 2, 0] rfl ?_
            exact ih _ _ hG
      · exact absurd h (by omega)
    · intro k f' g' hk hF ih
      obtain hF := hF
      refine J.iload C dX1_halve_32 4 rfl ?_
      refine J.bipush (v := nI 24) C dX1_halve_34 (by decide) ?_
      refine J.ncmp_ge (tgt := 91) C dX1_halve_36 (by decide) (by first | omega | exact d16 _ _) (by first | omega | exact d16 _ _) (fun h => ?_) (fun h => ?_)
      · exact absurd h (by omega)
      · have hst : J z f' g' 62 [(0, .ref (a 0)), (1, .int r), (3, .int (nI (cr 65536 (V (rg p)) Q k))), (4, .int (tf (V (rg p) % 2 = 1))), (5, .int (nI k))] [.int (nI (dgt 65536 Q k)), .int (nI (dgt 65536 (V (rg p)) k))] := by
          refine J.iadd C dX1_halve_62 ?_
          refine J.eqi (w_add _ _) ?_
          refine J.iload_n C dX1_halve_63 rfl 2 rfl ?_
          refine J.iadd C dX1_halve_64 ?_
          refine J.eqi (w_add _ _) ?_
          refine J.istore (lv' := [(6, .int _), (0, .ref _), (1, .int _), (3, .int _), (4, .int _), (5, .int _)]) C dX1_halve_65 (by decide) rfl ?_
          refine J.aload_n C dX1_halve_67 rfl 1 rfl ?_
          refine J.get1 C 4 (by decide) q189 dX1_halve_68 ?_
          refine J.iload C dX1_halve_71 5 rfl ?_
          refine J.iload C dX1_halve_73 0 rfl ?_
          refine J.ldc C q183 dX1_halve_75 ?_
          refine J.eqi (y := nI 65535) rfl ?_
          refine J.iand C dX1_halve_77 ?_
          refine J.eqi cs_d ?_
          refine J.fast C hF (gk (by decide)) (Nat.zero_add k).symm (by show _ < 25; omega) rfl dX1_halve_78 (fun f' hF => ?_)
          refine J.iload C dX1_halve_79 0 rfl ?_
          refine J.bipush (v := nI 16) C dX1_halve_81 (by decide) ?_
          refine J.ishr C dX1_halve_83 ?_
          refine J.eqi cs_c ?_
          refine J.istore_n (lv' := [(3, .int _), (6, .int _), (0, .ref _), (1, .int _), (4, .int _), (5, .int _)]) C dX1_halve_84 rfl (by decide) rfl ?_
          refine J.inc (lv' := [(5, .int _), (3, .int _), (6, .int _), (0, .ref _), (1, .int _), (4, .int _)]) C dX1_halve_85 5 rfl (by decide) rfl ?_
          refine J.goto (tgt := 32) C dX1_halve_88 (by decide) ?_
          refine J.perm (lv' := [(0, .ref _), (1, .int _), (3, .int _), (4, .int _), (5, .int _)]) [3, 4, 1, 5, 0] rfl ?_
          exact ih _ _ hF
        refine J.aload_n C dX1_halve_39 rfl 0 rfl ?_
        refine J.get1 C 5 (by decide) q190 dX1_halve_40 ?_
        refine J.iload C dX1_halve_43 4 rfl ?_
        refine J.iald C (gk (by decide)) (by show _ < 24; omega) dX1_halve_45 ?_
        refine J.eqi (y := nI (dgt 65536 (V (rg p)) k)) (by rw [hF.other (by decide)]; exact h1.2 k hk) ?_
        refine J.iload C dX1_halve_46 3 rfl ?_
        refine J.if_eq (tgt := 61) C dX1_halve_48 (by decide) (fun c => ?_) (fun c => ?_)
        · have c2 : ¬ V (rg p) % 2 = 1 := fun q => absurd ((tf_t q).symm.trans c) (by decide)
          refine J.iconst (v := nI 0) C dX1_halve_61 (by decide) ?_
          refine J.eqi (y := nI (dgt 65536 Q k)) (by rw [eQ, if_neg c2, dgt_0]) ?_
          exact hst
        · have c2 : V (rg p) % 2 = 1 := Classical.byContradiction fun q => c (tf_f q)
          refine J.aload_n C dX1_halve_51 rfl 0 rfl ?_
          refine J.get1 C 2 (by decide) q187 dX1_halve_52 ?_
          refine J.iload C dX1_halve_55 4 rfl ?_
          refine J.iald C (gk (by decide)) (by show _ < 24; omega) dX1_halve_57 ?_
          refine J.eqi (y := nI (dgt 65536 PP k)) (by rw [hF.other (by decide)]; exact hI1.2.2 k hk) ?_
          refine J.goto (tgt := 62) C dX1_halve_58 (by decide) ?_
          refine J.eqi (y := nI (dgt 65536 Q k)) (by rw [eQ, if_pos c2]) ?_
          exact hst
  have e0 : dgt 65536 (V (rg p)) 0 % 2 ^ 1 = V (rg p) % 2 := by rw [dgt_0']; omega
  refine J.iconst (v := nI 0) C dX1_halve_9 (by decide) ?_
  refine J.eqi (y := nI (cr 65536 (V (rg p)) Q 0)) (by rw [cr_0]) ?_
  refine J.istore_n (lv' := [(3, .int _), (0, .ref _), (1, .int _), (2, .int _)]) C dX1_halve_10 rfl (by decide) rfl ?_
  refine J.aload_n C dX1_halve_11 rfl 1 rfl ?_
  refine J.get1 C 5 (by decide) q190 dX1_halve_12 ?_
  refine J.iconst (v := nI 0) C dX1_halve_15 (by decide) ?_
  refine J.iald C (gk (by decide)) (by show _ < 24; omega) dX1_halve_16 ?_
  refine J.eqi (h1.2 0 (by decide)) ?_
  refine J.iconst (v := nI 1) C dX1_halve_17 (by decide) ?_
  refine J.iand C dX1_halve_18 ?_
  refine J.eqi (w_and (m := 1) 1 (dgt_lt32 okb16 _ _) rfl (by decide)) ?_
  refine J.if_eq (tgt := 26) C dX1_halve_19 (by decide) (fun c => ?_) (fun c => ?_)
  · have c2 : ¬ V (rg p) % 2 = 1 := fun q => by rw [e0, q] at c; exact absurd c (by decide)
    refine J.iconst (v := nI 0) C dX1_halve_26 (by decide) ?_
    refine J.perm (lv' := [(0, .ref _), (1, .int _), (3, .int _)]) [1, 2, 0] rfl ?_
    refine J.eqi (y := tf (V (rg p) % 2 = 1)) (tf_f c2).symm ?_
    exact tail _
  · have c2 : V (rg p) % 2 = 1 := by
      rcases Nat.mod_two_eq_zero_or_one (V (rg p)) with q | q
      · exact absurd (by rw [e0, q]; rfl) c
      · exact q
    refine J.iconst (v := nI 1) C dX1_halve_22 (by decide) ?_
    refine J.goto (tgt := 27) C dX1_halve_23 (by decide) ?_
    refine J.perm (lv' := [(0, .ref _), (1, .int _), (3, .int _)]) [1, 2, 0] rfl ?_
    refine J.eqi (y := tf (V (rg p) % 2 = 1)) (tf_t c2).symm ?_
    exact tail _
theorem w_lo16 (x : Int32) : x &&& nI 65535 = nI (un x % 65536) := pk_and x 16 (by decide +kernel)
theorem w_hi16 (x : Int32) : (x.toUInt32 >>> ((nI 16).toUInt32 &&& Int32.toUInt32 31)).toInt32 = nI (un x / 65536) := by
  have h := w_ushr16 (un_lt x)
  rwa [nI_un] at h
theorem Rd.two {h : Nat → Int32} {n X : Nat} (hX : X < 4294967296) (h0 : h 0 = nI (X % 65536)) (h1 : h 1 = nI (X / 65536)) (hz : ∀ k, k < n → 2 ≤ k → h k = nI 0) : Rd 65536 n h X := fun k hk => by
  rcases Nat.lt_or_ge k 2 with q | q
  · rcases (show k = 0 ∨ k = 1 by omega) with rfl | rfl
    · rw [h0, dgt_0']
    · rw [h1]
      unfold dgt
      rw [Nat.pow_one, Nat.mod_eq_of_lt (show X / 65536 < 65536 by omega)]
  · rw [hz k hk q, dgt_hi (n := 2) (show X < 65536 ^ 2 by omega) q okb16]
theorem ca_dbl (x k : Nat) : ((x * 2 ^ k) % PP + (x * 2 ^ k) % PP) % PP = (x * 2 ^ (k + 1)) % PP := by
  rw [← Nat.add_mod, Nat.pow_succ, ← Nat.mul_assoc, Nat.mul_two]
theorem ca_RR : (2 : Nat) ^ 384 = RR := by decide +kernel
set_option maxHeartbeats 4000000 in
set_option maxRecDepth 100000 in
theorem m_carry {l : Launch} {D : va_G} {d dL : ClassId} {a : Nat → Nat} {f : gF} {g : gG} {V : Nat → Nat} {Ln : Nat} {r w : Int32} (hI : MI V Ln f) (hV : VOK V) : gMet l yX1_carry cX1_carry 4 none 3 75 D d dL 1 a [.ref (a 0), .int r, .int w] f g (fun v f' g' => v = none ∧ MI (va_up V (rg r) ((V (rg r) + un w * RR % PP) % PP)) Ln f') := by
  refine gMet.of (by decide) (Nat.le_of_ble_eq_true rfl) (fun z C => ?_)
  show J z f g 0 [(0, .ref (a 0)), (1, .int r), (2, .int w)] []
  refine J.aload_n C dX1_carry_0 rfl 0 rfl ?_
  refine J.aload_n C dX1_carry_1 rfl 0 rfl ?_
  refine J.get1 C 5 (by decide) q190 dX1_carry_2 ?_
  refine J.iload_n C dX1_carry_5 rfl 1 rfl ?_
  refine J.callV (rest := []) C (m_take (gk (by decide)) rfl hI.1) _ rfl q247 q249 qs10 q19 q250 (by show _ = _ ∧ _ ≠ _ ∧ _ ≠ _ ∧ _ = some 2; decide +kernel) ⟨by decide, by decide⟩ rfl (Nat.le_of_ble_eq_true rfl) dX1_carry_6 (fun v f1 g1 hR => ?_)
  obtain ⟨rfl, h1⟩ := hR
  refine J.eqs (st' := []) rfl ?_
  have hI1 := hI.nu h1 (by decide)
  refine J.iconst (v := nI 0) C dX1_carry_9 (by decide) ?_
  refine J.istore_n (lv' := [(3, .int _), (0, .ref _), (1, .int _), (2, .int _)]) C dX1_carry_10 rfl (by decide) rfl ?_
  refine J.perm (lv' := [(0, .ref _), (1, .int _), (2, .int _), (3, .int _)]) [1, 2, 3, 0] rfl ?_
  refine J.loop (head := 11) 24 (fun k f' g' => fil f1 7 0 (fun _ => nI 0) k f') (fun k => [(0, .ref (a 0)), (1, .int r), (2, .int w), (3, .int (nI k))]) ?_ ?_ 24 0 _ _ rfl fil.zero
  · intro f' g' hF
    obtain hF := hF
    refine J.iload_n C dX1_carry_11 rfl 3 rfl ?_
    refine J.bipush (v := nI 24) C dX1_carry_12 (by decide) ?_
    refine J.ncmp_ge (tgt := 30) C dX1_carry_14 (by decide) (by first | omega | exact d16 _ _) (by first | omega | exact d16 _ _) (fun h => ?_) (fun h => ?_)
    · have hI2 := hI1.fil hF (by decide)
      refine J.aload_n C dX1_carry_30 rfl 0 rfl ?_
      refine J.get1 C 6 (by decide) q191 dX1_carry_31 ?_
      refine J.iconst (v := nI 0) C dX1_carry_34 (by decide) ?_
      refine J.iload_n C dX1_carry_35 rfl 2 rfl ?_
      refine J.ldc C q183 dX1_carry_36 ?_
      refine J.eqi (y := nI 65535) rfl ?_
      refine J.iand C dX1_carry_38 ?_
      refine J.eqi (w_lo16 w) ?_
      refine J.iast C (gk (by decide)) (by show _ < 24; omega) dX1_carry_39 ?_
      refine J.aload_n C dX1_carry_40 rfl 0 rfl ?_
      refine J.get1 C 6 (by decide) q191 dX1_carry_41 ?_
      refine J.iconst (v := nI 1) C dX1_carry_44 (by decide) ?_
      refine J.iload_n C dX1_carry_45 rfl 2 rfl ?_
      refine J.bipush (v := nI 16) C dX1_carry_46 (by decide) ?_
      refine J.iushr C dX1_carry_48 ?_
      refine J.eqi (w_hi16 w) ?_
      refine J.iast C (gk (by decide)) (by show _ < 24; omega) dX1_carry_49 ?_
      have hkj : ∀ j, j ≠ 7 → (va_up (va_up f' 7 (upd (f' 7) 0 (nI (un w % 65536)))) 7 (upd (va_up f' 7 (upd (f' 7) 0 (nI (un w % 65536))) 7) 1 (nI (un w / 65536)))) j = f' j := fun j hj => by rw [va_up_ne _ _ hj, va_up_ne _ _ hj]
      have h7 : Rd 65536 24 ((va_up (va_up f' 7 (upd (f' 7) 0 (nI (un w % 65536)))) 7 (upd (va_up f' 7 (upd (f' 7) 0 (nI (un w % 65536))) 7) 1 (nI (un w / 65536)))) 7) (un w) := by
        rw [va_up_self, va_up_self]
        refine Rd.two (un_lt w) (by rw [pk_un (by decide), pk_us]) pk_us (fun k hk h2 => ?_)
        rw [pk_un (by omega), pk_un (by omega)]
        have := hF.at.1 k hk
        rwa [Nat.zero_add] at this
      generalize (va_up (va_up f' 7 (upd (f' 7) 0 (nI (un w % 65536)))) 7 (upd (va_up f' 7 (upd (f' 7) 0 (nI (un w % 65536))) 7) 1 (nI (un w / 65536)))) = f2 at hkj h7 ⊢
      have hI3 : MI V Ln f2 := hI2.keep (hkj 1 (by decide)) (hkj 2 (by decide)) (hkj 3 (by decide))
      have hx3 : Rd 65536 24 (f2 6) (V (rg r)) := by rw [hkj 6 (by decide), hF.other (by decide)]; exact h1.2
      have lw : un w < PP := Nat.lt_trans (un_lt w) (by decide)
      refine J.iconst (v := nI 0) C dX1_carry_50 (by decide) ?_
      refine J.istore_n (lv' := [(3, .int _), (0, .ref _), (1, .int _), (2, .int _)]) C dX1_carry_51 rfl (by decide) rfl ?_
      refine J.perm (lv' := [(0, .ref _), (1, .int _), (3, .int _)]) [1, 2, 0] rfl ?_
      refine J.loop (head := 52) 384 (fun k f' g' => MI V Ln f' ∧ Rd 65536 24 (f' 6) (V (rg r)) ∧ Rd 65536 24 (f' 7) ((un w * 2 ^ k) % PP)) (fun k => [(0, .ref (a 0)), (1, .int r), (3, .int (nI k))]) ?_ ?_ 384 0 _ _ rfl ⟨hI3, hx3, by rw [Nat.pow_zero, Nat.mul_one, Nat.mod_eq_of_lt lw]; exact h7⟩
      · intro f4 g4 hI
        obtain ⟨hI4, hx, hy⟩ := hI
        refine J.iload_n C dX1_carry_52 rfl 2 rfl ?_
        refine J.sipush (v := nI 384) C dX1_carry_53 (by decide) ?_
        refine J.ncmp_ge (tgt := 81) C dX1_carry_56 (by decide) (by first | omega | exact d16 _ _) (by first | omega | exact d16 _ _) (fun h => ?_) (fun h => ?_)
        · rw [ca_RR] at hy
          refine J.aload_n C dX1_carry_81 rfl 0 rfl ?_
          refine J.aload_n C dX1_carry_82 rfl 0 rfl ?_
          refine J.get1 C 5 (by decide) q190 dX1_carry_83 ?_
          refine J.aload_n C dX1_carry_86 rfl 0 rfl ?_
          refine J.get1 C 5 (by decide) q190 dX1_carry_87 ?_
          refine J.aload_n C dX1_carry_90 rfl 0 rfl ?_
          refine J.get1 C 6 (by decide) q191 dX1_carry_91 ?_
          refine J.callV (rest := []) C (m_plus (gk (by decide)) rfl (gk (by decide)) rfl (gk (by decide)) rfl hI4.2.2 (by decide) hx hy (hV _ (rg_lt r)) (Nat.mod_lt _ PP_pos)) _ rfl q251 q253 qs11 q19 q254 (by show _ = _ ∧ _ ≠ _ ∧ _ ≠ _ ∧ _ = some 3; decide +kernel) ⟨by decide, by decide⟩ rfl (Nat.le_of_ble_eq_true rfl) dX1_carry_94 (fun v f5 g5 hR => ?_)
          obtain ⟨rfl, hk5, h5⟩ := hR
          refine J.eqs (st' := []) rfl ?_
          have hI5 := hI4.two hk5 (by decide) (by decide)
          refine J.aload_n C dX1_carry_97 rfl 0 rfl ?_
          refine J.iload_n C dX1_carry_98 rfl 1 rfl ?_
          refine J.aload_n C dX1_carry_99 rfl 0 rfl ?_
          refine J.get1 C 5 (by decide) q190 dX1_carry_100 ?_
          refine J.callV (rest := []) C (m_give (gk (by decide)) rfl hI5.1 h5) _ rfl q235 q237 qs9 q19 q238 (by show _ = _ ∧ _ ≠ _ ∧ _ ≠ _ ∧ _ = some 2; decide +kernel) ⟨by decide, by decide⟩ rfl (Nat.le_of_ble_eq_true rfl) dX1_carry_103 (fun v f6 g6 hR => ?_)
          obtain ⟨rfl, e6, h6⟩ := hR
          refine J.eqs (st' := []) rfl ?_
          exact J.vret C dX1_carry_106 ⟨rfl, hI5.put e6 h6⟩
        · exact absurd h (by omega)
      · intro k f4 g4 hk2 hI ih2
        obtain ⟨hI4, hx, hy⟩ := hI
        refine J.iload_n C dX1_carry_52 rfl 2 rfl ?_
        refine J.sipush (v := nI 384) C dX1_carry_53 (by decide) ?_
        refine J.ncmp_ge (tgt := 81) C dX1_carry_56 (by decide) (by first | omega | exact d16 _ _) (by first | omega | exact d16 _ _) (fun h => ?_) (fun h => ?_)
        · exact absurd h (by omega)
        · refine J.aload_n C dX1_carry_59 rfl 0 rfl ?_
          refine J.aload_n C dX1_carry_60 rfl 0 rfl ?_
          refine J.get1 C 6 (by decide) q191 dX1_carry_61 ?_
          refine J.aload_n C dX1_carry_64 rfl 0 rfl ?_
          refine J.get1 C 6 (by decide) q191 dX1_carry_65 ?_
          refine J.aload_n C dX1_carry_68 rfl 0 rfl ?_
          refine J.get1 C 6 (by decide) q191 dX1_carry_69 ?_
          refine J.callV (rest := []) C (m_plus (gk (by decide)) rfl (gk (by decide)) rfl (gk (by decide)) rfl hI4.2.2 (by decide) hy hy (Nat.mod_lt _ PP_pos) (Nat.mod_lt _ PP_pos)) _ rfl q251 q253 qs11 q19 q254 (by show _ = _ ∧ _ ≠ _ ∧ _ ≠ _ ∧ _ = some 3; decide +kernel) ⟨by decide, by decide⟩ rfl (Nat.le_of_ble_eq_true rfl) dX1_carry_72 (fun v f5 g5 hR => ?_)
          obtain ⟨rfl, hk5, h5⟩ := hR
          refine J.eqs (st' := []) rfl ?_
          have hI5 := hI4.two hk5 (by decide) (by decide)
          rw [ca_dbl] at h5
          refine J.inc (lv' := [(3, .int _), (0, .ref _), (1, .int _)]) C dX1_carry_75 2 rfl (by decide) rfl ?_
          refine J.goto (tgt := 52) C dX1_carry_78 (by decide) ?_
          refine J.perm (lv' := [(0, .ref _), (1, .int _), (3, .int _)]) [1, 2, 0] rfl ?_
          exact ih2 _ _ ⟨hI5, by rw [hk5 6 (by decide) (by decide)]; exact hx, h5⟩
    · exact absurd h (by omega)
  · intro k f' g' hk hF ih
    obtain hF := hF
    refine J.iload_n C dX1_carry_11 rfl 3 rfl ?_
    refine J.bipush (v := nI 24) C dX1_carry_12 (by decide) ?_
    refine J.ncmp_ge (tgt := 30) C dX1_carry_14 (by decide) (by first | omega | exact d16 _ _) (by first | omega | exact d16 _ _) (fun h => ?_) (fun h => ?_)
    · exact absurd h (by omega)
    · refine J.aload_n C dX1_carry_17 rfl 0 rfl ?_
      refine J.get1 C 6 (by decide) q191 dX1_carry_18 ?_
      refine J.iload_n C dX1_carry_21 rfl 3 rfl ?_
      refine J.iconst (v := nI 0) C dX1_carry_22 (by decide) ?_
      refine J.fast C hF (gk (by decide)) (Nat.zero_add k).symm (by show _ < 24; omega) rfl dX1_carry_23 (fun f' hF => ?_)
      refine J.inc (lv' := [(3, .int _), (0, .ref _), (1, .int _), (2, .int _)]) C dX1_carry_24 3 rfl (by decide) rfl ?_
      refine J.goto (tgt := 11) C dX1_carry_27 (by decide) ?_
      refine J.perm (lv' := [(0, .ref _), (1, .int _), (2, .int _), (3, .int _)]) [1, 2, 3, 0] rfl ?_
      exact ih _ _ hF
set_option maxHeartbeats 4000000 in
set_option maxRecDepth 100000 in
theorem m_word {l : Launch} {D : va_G} {d dL : ClassId} {a : Nat → Nat} {f : gF} {g : gG} {V : Nat → Nat} {Ln : Nat} {r at_ : Int32} (hI : MI V Ln f) (hV : VOK V) : gMet l yX1_word cX1_word 4 (some .int) 3 75 D d dL 1 a [.ref (a 0), .int r, .int at_] f g (fun v f' g' => v = some (.int (nI (dgt 4294967296 (V (rg r)) (un at_ % 2147483648 % 12)))) ∧ MI V Ln f') := by
  refine gMet.of (by decide) (Nat.le_of_ble_eq_true rfl) (fun z C => ?_)
  show J z f g 0 [(0, .ref (a 0)), (1, .int r), (2, .int at_)] []
  refine J.iload_n C dX1_word_0 rfl 1 rfl ?_
  refine J.iconst (v := nI 3) C dX1_word_1 (by decide) ?_
  refine J.iand C dX1_word_2 ?_
  refine J.eqi (w_and3 r) ?_
  refine J.bipush (v := nI 24) C dX1_word_3 (by decide) ?_
  refine J.imul C dX1_word_5 ?_
  refine J.eqi (pk_mul _ _) ?_
  refine J.iload_n C dX1_word_6 rfl 2 rfl ?_
  refine J.ldc C q226 dX1_word_7 ?_
  refine J.iand C dX1_word_9 ?_
  refine J.eqi (w_and31 at_) ?_
  refine J.bipush (v := nI 12) C dX1_word_10 (by decide) ?_
  refine J.irem C dX1_word_12 (by decide) ?_
  refine J.eqi (w_rem (Nat.mod_lt _ (by decide)) (by decide) (by decide)) ?_
  refine J.iconst (v := nI 2) C dX1_word_13 (by decide) ?_
  refine J.imul C dX1_word_14 ?_
  refine J.eqi (pk_mul _ _) ?_
  refine J.iadd C dX1_word_15 ?_
  refine J.eqi (w_add _ _) ?_
  refine J.istore_n (lv' := [(3, .int _), (0, .ref _), (1, .int _), (2, .int _)]) C dX1_word_16 rfl (by decide) rfl ?_
  have hm : un at_ % 2147483648 % 12 < 12 := Nat.mod_lt _ (by decide)
  refine J.perm (lv' := [(0, .ref (a 0)), (3, .int (nI (rg r * 24 + un at_ % 2147483648 % 12 * 2)))]) [1, 0] rfl ?_
  have hC := C
  obtain ⟨m, em⟩ : ∃ m, m = un at_ % 2147483648 % 12 := ⟨_, rfl⟩
  rw [← em] at hm ⊢
  have hr0 := hI.1 (rg r) (rg_lt r)
  have hr0 : ∀ k, k < 24 → f 1 (rg r * 24 + k) = nI (dgt 65536 (V (rg r)) k) := hr0
  refine J.aload_n C dX1_word_17 rfl 0 rfl ?_
  refine J.get1 C 0 (by decide) q185 dX1_word_18 ?_
  refine J.iload_n C dX1_word_21 rfl 1 rfl ?_
  refine J.iald C (gk (by decide)) (by have := rg_lt r; show rg r * 24 + m * 2 < 96; omega) dX1_word_22 ?_
  refine J.eqi (y := nI (dgt 65536 (V (rg r)) (2 * m))) (by rw [hr0 (m * 2) (by omega), Nat.mul_comm]) ?_
  refine J.aload_n C dX1_word_23 rfl 0 rfl ?_
  refine J.get1 C 0 (by decide) q185 dX1_word_24 ?_
  refine J.iload_n C dX1_word_27 rfl 1 rfl ?_
  refine J.iconst (v := nI 1) C dX1_word_28 (by decide) ?_
  refine J.iadd C dX1_word_29 ?_
  refine J.eqi (w_add _ _) ?_
  refine J.iald C (gk (by decide)) (by have := rg_lt r; show rg r * 24 + m * 2 + 1 < 96; omega) dX1_word_30 ?_
  refine J.eqi (y := nI (dgt 65536 (V (rg r)) (2 * m + 1))) (by rw [Nat.add_assoc, hr0 (m * 2 + 1) (by omega), Nat.mul_comm]) ?_
  refine J.bipush (v := nI 16) C dX1_word_31 (by decide) ?_
  refine J.ishl C dX1_word_33 ?_
  refine J.eqi (w_shl16 (dgt_lt okb16 _ _)) ?_
  refine J.ior C dX1_word_34 ?_
  refine J.eqi (w_or_add (k := 16) (dgt_lt okb16 _ _)) ?_
  refine J.eqi (congrArg nI (d32_16 (V (rg r)) m).symm) ?_
  exact J.iret C dX1_word_35 ⟨by rw [em], hI⟩
end Mfa
end
section
section Mfb
set_option maxHeartbeats 4000000 in
set_option maxRecDepth 100000 in
theorem m_load {l : Launch} {D : va_G} {d dL : ClassId} {a : Nat → Nat} {f : gF} {g : gG} {V : Nat → Nat} {Ln : Nat} {r : Int32} (hI : MI V Ln f) (hV : VOK V) : gMet l yX1_load cX1_load 4 (some .boolean) 3 75 D d dL 1 a [.ref (a 0), .int r] f g (fun v f' g' => v = some (.int (tf (PP ≤ Ln))) ∧ MI (va_up V (rg r) (Ln % PP)) Ln f') := by
  refine gMet.of (by decide) (Nat.le_of_ble_eq_true rfl) (fun z C => ?_)
  show J z f g 0 [(0, .ref (a 0)), (1, .int r)] []
  have lL : Ln < 65536 ^ 24 := by rw [← b_12_24]; exact hI.2.1.2
  have lS : Ln < 2 * PP := Nat.lt_trans hI.2.1.2 P_half
  refine J.iconst (v := nI 0) C dX1_load_0 (by decide) ?_
  refine J.istore_n (lv' := [(2, .int _), (0, .ref _), (1, .int _)]) C dX1_load_1 rfl (by decide) rfl ?_
  refine J.perm (lv' := [(0, .ref _), (1, .int _), (2, .int _)]) [1, 2, 0] rfl ?_
  refine J.loop (head := 2) 24 (fun k f' g' => fil f 5 0 (fun j => nI (dgt 65536 Ln j)) k f') (fun k => [(0, .ref (a 0)), (1, .int r), (2, .int (nI k))]) ?_ ?_ 24 0 _ _ rfl fil.zero
  · intro f' g' hF
    obtain hF := hF
    refine J.iload_n C dX1_load_2 rfl 2 rfl ?_
    refine J.bipush (v := nI 24) C dX1_load_3 (by decide) ?_
    refine J.ncmp_ge (tgt := 26) C dX1_load_5 (by decide) (by first | omega | exact d16 _ _) (by first | omega | exact d16 _ _) (fun h => ?_) (fun h => ?_)
    · refine J.aload_n C dX1_load_26 rfl 0 rfl ?_
      refine J.get1 C 4 (by decide) q189 dX1_load_27 ?_
      refine J.bipush (v := nI 24) C dX1_load_30 (by decide) ?_
      refine J.iconst (v := nI 0) C dX1_load_32 (by decide) ?_
      refine J.fast C hF (gk (by decide)) (Nat.zero_add 24).symm (by show _ < 25; omega) (by rw [dgt_hi lL (Nat.le_refl 24) okb16]) dX1_load_33 (fun f1 hF => ?_)
      have hS : Rd 65536 25 (f1 5) Ln := hF.rd
      have hI1 := hI.fil hF (by decide)
      have cmp : ∀ (gS : gG) (k : Nat), k ≤ 23 → Ln / 65536 ^ (k + 1) = PP / 65536 ^ (k + 1) → (k = 0 ∨ dgt 65536 Ln k ≠ dgt 65536 PP k) → J z f1 gS 63 [(0, .ref (a 0)), (1, .int r), (2, .int (nI k))] [] := by
        intro gS k hk hE h0
        have tail : ∀ gS : gG, J z f1 gS 83 [(0, .ref (a 0)), (1, .int r), (2, .int (nI k))] [.int (tf (PP ≤ Ln))] := by
          intro gS
          refine J.istore_n (lv' := [(3, .int _), (0, .ref _), (1, .int _), (2, .int _)]) C dX1_load_83 rfl (by decide) rfl ?_
          refine J.aload_n C dX1_load_84 rfl 1 rfl ?_
          refine J.aload_n C dX1_load_85 rfl 1 rfl ?_
          refine J.get1 C 5 (by decide) q190 dX1_load_86 ?_
          refine J.aload_n C dX1_load_89 rfl 1 rfl ?_
          refine J.get1 C 4 (by decide) q189 dX1_load_90 ?_
          refine J.callV (rest := []) C (m_fold (gk (by decide)) rfl (gk (by decide)) rfl hI1.2.2 (by decide) hS lS) _ rfl q231 q233 qs8 q19 q234 (by show _ = _ ∧ _ ≠ _ ∧ _ ≠ _ ∧ _ = some 2; decide +kernel) ⟨by decide, by decide⟩ rfl (Nat.le_of_ble_eq_true rfl) dX1_load_93 (fun v f2 g2 hR => ?_)
          obtain ⟨rfl, h2⟩ := hR
          refine J.eqs (st' := []) rfl ?_
          have hI2 := hI1.nu h2 (by decide)
          refine J.aload_n C dX1_load_96 rfl 1 rfl ?_
          refine J.iload_n C dX1_load_97 rfl 2 rfl ?_
          refine J.aload_n C dX1_load_98 rfl 1 rfl ?_
          refine J.get1 C 5 (by decide) q190 dX1_load_99 ?_
          refine J.callV (rest := []) C (m_give (gk (by decide)) rfl hI2.1 h2.2) _ rfl q235 q237 qs9 q19 q238 (by show _ = _ ∧ _ ≠ _ ∧ _ ≠ _ ∧ _ = some 2; decide +kernel) ⟨by decide, by decide⟩ rfl (Nat.le_of_ble_eq_true rfl) dX1_load_102 (fun v f3 g3 hR => ?_)
          obtain ⟨rfl, e3, h3⟩ := hR
          refine J.eqs (st' := []) rfl ?_
          refine J.iload_n C dX1_load_105 rfl 0 rfl ?_
          exact J.zret C tf_nar dX1_load_106 ⟨rfl, hI2.put e3 h3⟩
        refine J.aload_n C dX1_load_63 rfl 0 rfl ?_
        refine J.get1 C 4 (by decide) q189 dX1_load_64 ?_
        refine J.iload_n C dX1_load_67 rfl 2 rfl ?_
        refine J.iald C (gk (by decide)) (by show _ < 25; omega) dX1_load_68 ?_
        refine J.eqi (hS k (by omega)) ?_
        refine J.aload_n C dX1_load_69 rfl 0 rfl ?_
        refine J.get1 C 2 (by decide) q187 dX1_load_70 ?_
        refine J.iload_n C dX1_load_73 rfl 2 rfl ?_
        refine J.iald C (gk (by decide)) (by show _ < 24; omega) dX1_load_74 ?_
        refine J.eqi (hI1.2.2 k (by omega)) ?_
        refine J.ncmp_lt (tgt := 82) C dX1_load_75 (by decide) (by first | omega | exact d16 _ _) (by first | omega | exact d16 _ _) (fun c => ?_) (fun c => ?_)
        · refine J.iconst (v := nI 0) C dX1_load_82 (by decide) ?_
          refine J.eqi (y := tf (PP ≤ Ln)) (tf_f (by have := lt_of_dgt okb16 hE c; omega)).symm ?_
          exact tail _
        · refine J.iconst (v := nI 1) C dX1_load_78 (by decide) ?_
          refine J.goto (tgt := 83) C dX1_load_79 (by decide) ?_
          refine J.eqi (y := tf (PP ≤ Ln)) (tf_t (ge_of_dgt okb16 hE c h0)).symm ?_
          exact tail _
      refine J.bipush (v := nI 23) C dX1_load_34 (by decide) ?_
      refine J.istore_n (lv' := [(2, .int _), (0, .ref _), (1, .int _)]) C dX1_load_36 rfl (by decide) rfl ?_
      refine J.perm (lv' := [(0, .ref _), (1, .int _), (2, .int _)]) [1, 2, 0] rfl ?_
      refine J.loopM (head := 37) (fun k : Nat => k) (fun k f' g' => f1 = f' ∧ k ≤ 23 ∧ Ln / 65536 ^ (k + 1) = PP / 65536 ^ (k + 1)) (fun k => [(0, .ref (a 0)), (1, .int r), (2, .int (nI k))]) ?_ 24 23 _ _ (by decide) ⟨rfl, Nat.le_refl _, by rw [Nat.div_eq_of_lt lL, Nat.div_eq_of_lt P24]⟩
      intro k f2 g2 hQ ih
      obtain ⟨rfl, hk, hE⟩ := hQ
      cases k with
      | zero =>
        refine J.iload_n C dX1_load_37 rfl 2 rfl ?_
        refine J.if_le (tgt := 63) C dX1_load_38 (by decide) (fun c3 => ?_) (fun c3 => ?_)
        · exact cmp _ 0 hk hE (Or.inl rfl)
        · exact absurd (by decide) c3
      | succ k =>
        refine J.iload_n C dX1_load_37 rfl 2 rfl ?_
        refine J.if_le (tgt := 63) C dX1_load_38 (by decide) (fun c3 => ?_) (fun c3 => ?_)
        · exact absurd c3 (nI_nle (by omega) (by omega))
        · refine J.aload_n C dX1_load_41 rfl 0 rfl ?_
          refine J.get1 C 4 (by decide) q189 dX1_load_42 ?_
          refine J.iload_n C dX1_load_45 rfl 2 rfl ?_
          refine J.iald C (gk (by decide)) (by show _ < 25; omega) dX1_load_46 ?_
          refine J.eqi (hS (k + 1) (by omega)) ?_
          refine J.aload_n C dX1_load_47 rfl 0 rfl ?_
          refine J.get1 C 2 (by decide) q187 dX1_load_48 ?_
          refine J.iload_n C dX1_load_51 rfl 2 rfl ?_
          refine J.iald C (gk (by decide)) (by show _ < 24; omega) dX1_load_52 ?_
          refine J.eqi (hI1.2.2 (k + 1) (by omega)) ?_
          refine J.icmp_ne (tgt := 63) C dX1_load_53 (by decide) (fun c4 => ?_) (fun c4 => ?_)
          · exact cmp _ (k + 1) hk hE (Or.inr fun q => c4 (by rw [q]))
          · refine J.iload_n C dX1_load_56 rfl 2 rfl ?_
            refine J.iconst (v := nI 1) C dX1_load_57 (by decide) ?_
            refine J.isub C dX1_load_58 ?_
            refine J.eqi (nI_pred k) ?_
            refine J.istore_n (lv' := [(2, .int _), (0, .ref _), (1, .int _)]) C dX1_load_59 rfl (by decide) rfl ?_
            refine J.goto (tgt := 37) C dX1_load_60 (by decide) ?_
            refine J.perm (lv' := [(0, .ref _), (1, .int _), (2, .int _)]) [1, 2, 0] rfl ?_
            exact ih k _ _ ⟨rfl, by omega, eq_of_dgt okb16 hE ((w_inj (dgt_lt32 okb16 _ _) (dgt_lt32 okb16 _ _)).mp c4)⟩ (Nat.lt_succ_self k)
    · exact absurd h (by omega)
  · intro k f' g' hk hF ih
    obtain hF := hF
    refine J.iload_n C dX1_load_2 rfl 2 rfl ?_
    refine J.bipush (v := nI 24) C dX1_load_3 (by decide) ?_
    refine J.ncmp_ge (tgt := 26) C dX1_load_5 (by decide) (by first | omega | exact d16 _ _) (by first | omega | exact d16 _ _) (fun h => ?_) (fun h => ?_)
    · exact absurd h (by omega)
    · refine J.aload_n C dX1_load_8 rfl 0 rfl ?_
      refine J.get1 C 4 (by decide) q189 dX1_load_9 ?_
      refine J.iload_n C dX1_load_12 rfl 2 rfl ?_
      refine J.aload_n C dX1_load_13 rfl 0 rfl ?_
      refine J.get1 C 1 (by decide) q186 dX1_load_14 ?_
      refine J.iload_n C dX1_load_17 rfl 2 rfl ?_
      refine J.iald C (gk (by decide)) (by show _ < 24; omega) dX1_load_18 ?_
      refine J.eqi (y := nI (dgt 65536 Ln k)) (by rw [hF.other (by decide)]; exact hI.2.1.1 k hk) ?_
      refine J.fast C hF (gk (by decide)) (Nat.zero_add k).symm (by show _ < 25; omega) rfl dX1_load_19 (fun f' hF => ?_)
      refine J.inc (lv' := [(2, .int _), (0, .ref _), (1, .int _)]) C dX1_load_20 2 rfl (by decide) rfl ?_
      refine J.goto (tgt := 2) C dX1_load_23 (by decide) ?_
      refine J.perm (lv' := [(0, .ref _), (1, .int _), (2, .int _)]) [1, 2, 0] rfl ?_
      exact ih _ _ hF
theorem d16_even (V q : Nat) : dgt 65536 V (2 * q) = dgt 4294967296 V q % 65536 := by
  rw [d32_16]
  have := dgt_lt okb16 V (2 * q)
  omega
theorem d16_odd (V q : Nat) : dgt 65536 V (2 * q + 1) = dgt 4294967296 V q / 65536 := by
  rw [d32_16]
  have := dgt_lt okb16 V (2 * q)
  omega
theorem d16_eq {V W q : Nat} (h : dgt 4294967296 V q = dgt 4294967296 W q) {j : Nat} (hj : j / 2 = q) : dgt 65536 V j = dgt 65536 W j := by
  rcases Nat.mod_two_eq_zero_or_one j with e | e
  · rw [show j = 2 * q by omega, d16_even, d16_even, h]
  · rw [show j = 2 * q + 1 by omega, d16_odd, d16_odd, h]
set_option maxHeartbeats 4000000 in
set_option maxRecDepth 100000 in
theorem m_line {l : Launch} {D : va_G} {d dL : ClassId} {a : Nat → Nat} {f : gF} {g : gG} {V : Nat → Nat} {Ln : Nat} {part b0 b1 b2 b3 : Int32} (hI : MI V Ln f) (hV : VOK V) : gMet l yX1_line cX1_line 9 none 3 75 D d dL 1 a [.ref (a 0), .int part, .int b0, .int b1, .int b2, .int b3] f g (fun v f' g' => v = none ∧ MI V (lnU Ln part b0 b1 b2 b3) f') := by
  refine gMet.of (by decide) (Nat.le_of_ble_eq_true rfl) (fun z C => ?_)
  show J z f g 0 [(0, .ref (a 0)), (1, .int part), (2, .int b0), (3, .int b1), (4, .int b2), (5, .int b3)] []
  refine J.iload_n C dX1_line_0 rfl 1 rfl ?_
  refine J.ldc C q226 dX1_line_1 ?_
  refine J.iand C dX1_line_3 ?_
  refine J.eqi (w_and31 part) ?_
  refine J.iconst (v := nI 3) C dX1_line_4 (by decide) ?_
  refine J.irem C dX1_line_5 (by decide) ?_
  refine J.eqi (w_rem (Nat.mod_lt _ (by decide)) (by decide) (by decide)) ?_
  refine J.bipush (v := nI 8) C dX1_line_6 (by decide) ?_
  refine J.imul C dX1_line_8 ?_
  refine J.eqi (pk_mul _ _) ?_
  refine J.istore (lv' := [(6, .int _), (0, .ref _), (1, .int _), (2, .int _), (3, .int _), (4, .int _), (5, .int _)]) C dX1_line_9 (by decide) rfl ?_
  refine J.iconst (v := nI 0) C dX1_line_11 (by decide) ?_
  refine J.istore (lv' := [(7, .int _), (6, .int _), (0, .ref _), (1, .int _), (2, .int _), (3, .int _), (4, .int _), (5, .int _)]) C dX1_line_12 (by decide) rfl ?_
  have hm : un part % 2147483648 % 3 < 3 := Nat.mod_lt _ (by decide)
  have hU := lnU_dgt Ln part b0 b1 b2 b3
  have hlt := lnU_lt Ln part b0 b1 b2 b3
  refine J.perm (lv' := [(0, .ref (a 0)), (2, .int b0), (3, .int b1), (4, .int b2), (5, .int b3), (6, .int (nI (un part % 2147483648 % 3 * 8))), (7, .int (nI 0))]) [2, 4, 5, 6, 7, 1, 0] rfl ?_
  generalize lnU Ln part b0 b1 b2 b3 = LU at hU hlt C ⊢
  generalize un part % 2147483648 % 3 = m at hm hU ⊢
  refine J.loop (head := 14) 4 (fun k f' g' => (∀ j, j ≠ 2 → f' j = f j) ∧ ∀ j, f' 2 j = if m * 8 ≤ j ∧ j < m * 8 + 2 * k then nI (dgt 65536 LU j) else f 2 j) (fun k => [(0, .ref (a 0)), (2, .int b0), (3, .int b1), (4, .int b2), (5, .int b3), (6, .int (nI (m * 8))), (7, .int (nI k))]) ?_ ?_ 4 0 _ _ rfl ⟨fun _ _ => rfl, fun j => by rw [if_neg (by omega)]⟩
  · intro f' g' hI
    obtain ⟨hk0, hk1⟩ := hI
    refine J.iload C dX1_line_14 6 rfl ?_
    refine J.iconst (v := nI 4) C dX1_line_16 (by decide) ?_
    refine J.ncmp_ge (tgt := 96) C dX1_line_17 (by decide) (by first | omega | exact d16 _ _) (by first | omega | exact d16 _ _) (fun h => ?_) (fun h => ?_)
    · refine J.vret C dX1_line_96 ⟨rfl, ⟨?_, ⟨fun j hj => ?_, hlt⟩, ?_⟩⟩
      · rw [hk0 1 (by decide)]; exact hI.1
      · rw [hk1 j]
        by_cases hin : m * 8 ≤ j ∧ j < m * 8 + 2 * 4
        · rw [if_pos hin]
        · rw [if_neg hin, hI.2.1.1 j hj]
          refine congrArg nI (d16_eq (q := j / 2) ?_ rfl)
          rw [hU (j / 2) (by omega), if_neg (by omega), if_neg (by omega), if_neg (by omega), if_neg (by omega)]
      · rw [hk0 3 (by decide)]; exact hI.2.2
    · exact absurd h (by omega)
  · intro k f' g' hk hI ih
    obtain ⟨hk0, hk1⟩ := hI
    refine J.iload C dX1_line_14 6 rfl ?_
    refine J.iconst (v := nI 4) C dX1_line_16 (by decide) ?_
    refine J.ncmp_ge (tgt := 96) C dX1_line_17 (by decide) (by first | omega | exact d16 _ _) (by first | omega | exact d16 _ _) (fun h => ?_) (fun h => ?_)
    · exact absurd h (by omega)
    · have hst : ∀ w : Int32, dgt 4294967296 LU (4 * m + k) = un w → J z f' g' 52 [(0, .ref (a 0)), (2, .int b0), (3, .int b1), (4, .int b2), (5, .int b3), (6, .int (nI (m * 8))), (7, .int (nI k))] [.int w] := by
        intro w hw
        refine J.istore (lv' := [(8, .int _), (0, .ref _), (2, .int _), (3, .int _), (4, .int _), (5, .int _), (6, .int _), (7, .int _)]) C dX1_line_52 (by decide) rfl ?_
        refine J.aload_n C dX1_line_54 rfl 1 rfl ?_
        refine J.get1 C 1 (by decide) q186 dX1_line_55 ?_
        refine J.iload C dX1_line_58 6 rfl ?_
        refine J.iconst (v := nI 2) C dX1_line_60 (by decide) ?_
        refine J.iload C dX1_line_61 7 rfl ?_
        refine J.imul C dX1_line_63 ?_
        refine J.eqi (pk_mul _ _) ?_
        refine J.iadd C dX1_line_64 ?_
        refine J.eqi (w_add _ _) ?_
        refine J.iload C dX1_line_65 0 rfl ?_
        refine J.ldc C q183 dX1_line_67 ?_
        refine J.eqi (y := nI 65535) rfl ?_
        refine J.iand C dX1_line_69 ?_
        refine J.eqi (w_lo16 w) ?_
        refine J.iast C (gk (by decide)) (by show m * 8 + 2 * k < 24; omega) dX1_line_70 ?_
        refine J.aload_n C dX1_line_71 rfl 1 rfl ?_
        refine J.get1 C 1 (by decide) q186 dX1_line_72 ?_
        refine J.iload C dX1_line_75 6 rfl ?_
        refine J.iconst (v := nI 2) C dX1_line_77 (by decide) ?_
        refine J.iload C dX1_line_78 7 rfl ?_
        refine J.imul C dX1_line_80 ?_
        refine J.eqi (pk_mul _ _) ?_
        refine J.iadd C dX1_line_81 ?_
        refine J.eqi (w_add _ _) ?_
        refine J.iconst (v := nI 1) C dX1_line_82 (by decide) ?_
        refine J.iadd C dX1_line_83 ?_
        refine J.eqi (w_add _ _) ?_
        refine J.iload C dX1_line_84 0 rfl ?_
        refine J.bipush (v := nI 16) C dX1_line_86 (by decide) ?_
        refine J.iushr C dX1_line_88 ?_
        refine J.eqi (w_hi16 w) ?_
        refine J.iast C (gk (by decide)) (by show m * 8 + 2 * k + 1 < 24; omega) dX1_line_89 ?_
        refine J.inc (lv' := [(7, .int _), (8, .int _), (0, .ref _), (2, .int _), (3, .int _), (4, .int _), (5, .int _), (6, .int _)]) C dX1_line_90 7 rfl (by decide) rfl ?_
        refine J.goto (tgt := 14) C dX1_line_93 (by decide) ?_
        refine J.perm (lv' := [(0, .ref _), (2, .int _), (3, .int _), (4, .int _), (5, .int _), (6, .int _), (7, .int _)]) [2, 3, 4, 5, 6, 7, 0] rfl ?_
        refine ih _ _ ⟨fun j hj => ?_, fun j => ?_⟩
        · rw [va_up_ne _ _ hj, va_up_ne _ _ hj, hk0 j hj]
        · rw [va_up_self, va_up_self]
          by_cases e1 : j = m * 8 + 2 * k + 1
          · subst e1
            rw [pk_us, if_pos (by omega), show m * 8 + 2 * k + 1 = 2 * (4 * m + k) + 1 by omega, d16_odd, hw]
          · rw [pk_un e1]
            by_cases e0 : j = m * 8 + 2 * k
            · subst e0
              rw [pk_us, if_pos (by omega), show m * 8 + 2 * k = 2 * (4 * m + k) by omega, d16_even, hw]
            · rw [pk_un e0, hk1 j]
              by_cases hin : m * 8 ≤ j ∧ j < m * 8 + 2 * k
              · rw [if_pos hin, if_pos (by omega)]
              · rw [if_neg hin, if_neg (by omega)]
      have hUk := hU (4 * m + k) (by omega)
      refine J.iload C dX1_line_20 6 rfl ?_
      refine J.if_ne (tgt := 29) C dX1_line_22 (by decide) (fun c => ?_) (fun c => ?_)
      · have c1 : k ≠ 0 := fun q => c (by rw [q]; rfl)
        refine J.iload C dX1_line_29 6 rfl ?_
        refine J.iconst (v := nI 1) C dX1_line_31 (by decide) ?_
        refine J.icmp_ne (tgt := 39) C dX1_line_32 (by decide) (fun d1 => ?_) (fun d1 => ?_)
        · have c2 : k ≠ 1 := fun q => d1 (by rw [q])
          refine J.iload C dX1_line_39 6 rfl ?_
          refine J.iconst (v := nI 2) C dX1_line_41 (by decide) ?_
          refine J.icmp_ne (tgt := 50) C dX1_line_42 (by decide) (fun d2 => ?_) (fun d2 => ?_)
          · have c3 : k ≠ 2 := fun q => d2 (by rw [q])
            refine J.iload C dX1_line_50 4 rfl ?_
            exact hst b3 (by rw [hUk, if_neg (by omega), if_neg (by omega), if_neg (by omega), if_pos (by omega)])
          · have c3 : k = 2 := (w_inj (by omega) (by decide)).mp d2
            refine J.iload C dX1_line_45 3 rfl ?_
            refine J.goto (tgt := 52) C dX1_line_47 (by decide) ?_
            exact hst b2 (by rw [hUk, if_neg (by omega), if_neg (by omega), if_pos (by omega)])
        · have c2 : k = 1 := (w_inj (by omega) (by decide)).mp d1
          refine J.iload_n C dX1_line_35 rfl 2 rfl ?_
          refine J.goto (tgt := 52) C dX1_line_36 (by decide) ?_
          exact hst b1 (by rw [hUk, if_neg (by omega), if_pos (by omega)])
      · have c1 : k = 0 := (w_inj (by omega) (by decide)).mp c
        refine J.iload_n C dX1_line_25 rfl 1 rfl ?_
        refine J.goto (tgt := 52) C dX1_line_26 (by decide) ?_
        exact hst b0 (by rw [hUk, if_pos (by omega)])
end Mfb
end
section
section Min
/-- the same as IV, but that u may be 0 -/
def IW (p u v x y : Nat) : Prop := (0 < v ∧ u ≤ PP ∧ v ≤ PP) ∧ Nat.Coprime u v ∧ (x < PP ∧ y < PP) ∧ (x * p) % PP = u % PP ∧ (y * p) % PP = v % PP
theorem IV.iw {p u v x y : Nat} (h : IV p u v x y) : IW p u v x y := ⟨⟨h.1.2.1, h.1.2.2.1, h.1.2.2.2⟩, h.2⟩
theorem IW.iv {p u v x y : Nat} (h : IW p u v x y) (h0 : u ≠ 0) : IV p u v x y := ⟨⟨Nat.pos_of_ne_zero h0, h.1.1, h.1.2.1, h.1.2.2⟩, h.2⟩
theorem iw_ge {p u v x y : Nat} (h : IV p u v x y) (hlt : v ≤ u) : IW p (u - v) v ((x + PP - y) % PP) y := by
  obtain ⟨⟨h1, h2, h3, h4⟩, hc, ⟨lx, ly⟩, h5, h6⟩ := h
  exact ⟨⟨h2, by omega, h4⟩, (cop_sub hc.symm hlt).symm, ⟨Nat.mod_lt _ PP_pos, ly⟩, iv_sub ly hlt h6 h5, h6⟩
theorem P25 : PP + PP < 65536 ^ 25 := by decide +kernel
theorem q_sub25 {u v : Nat} (hle : u ≤ v) : (v + 65536 ^ 25 - u) % 65536 ^ 25 = (v - u) % 65536 ^ 25 := by
  rw [show v + 65536 ^ 25 - u = (v - u) + 65536 ^ 25 by omega, Nat.add_mod_right]
theorem q_dif25 {G E : Nat} (lG : G < PP) (lE : E < PP) : ((if G < E then G + PP else G) + 65536 ^ 25 - E) % 65536 ^ 25 = ((G + PP - E) % PP) % 65536 ^ 25 := by
  by_cases h : G < E
  · rw [if_pos h, q_sub25 (by omega), Nat.mod_eq_of_lt (show G + PP - E < PP by omega)]
  · rw [if_neg h, q_sub25 (by omega), show G + PP - E = (G - E) + PP by omega, Nat.add_mod_right, Nat.mod_eq_of_lt (show G - E < PP by omega)]
set_option maxHeartbeats 4000000 in
set_option maxRecDepth 100000 in
theorem m_invert {l : Launch} {D : va_G} {d dL : ClassId} {a : Nat → Nat} {f : gF} {g : gG} {V : Nat → Nat} {Ln : Nat} {r p : Int32} (hI : MI V Ln f) (hV : VOK V) : gMet l yX1_invert cX1_invert 4 (some .boolean) 3 75 D d dL 1 a [.ref (a 0), .int r, .int p] f g (fun v f' g' => (V (rg p) = 0 ∧ v = some (.int (nI 0)) ∧ MI V Ln f') ∨ (V (rg p) ≠ 0 ∧ v = some (.int (nI 1)) ∧ ∃ X, X < PP ∧ (X * V (rg p)) % PP = 1 ∧ MI (va_up V (rg r) X) Ln f')) := by
  refine gMet.of (by decide) (Nat.le_of_ble_eq_true rfl) (fun z C => ?_)
  show J z f g 0 [(0, .ref (a 0)), (1, .int r), (2, .int p)] []
  have tail : ∀ (f1 : gF) (g1 : gG) (v x y : Nat), V (rg p) ≠ 0 → MI V Ln f1 → Rd 65536 25 (f1 12) y → IW (V (rg p)) 0 v x y → J z f1 g1 313 [(0, .ref (a 0)), (1, .int r)] [] := by
    intro f1 g1 v x y hp0 hI1 hy hIW
    have hv1 : v = 1 := by
      have h5 : Nat.gcd 0 v = 1 := hIW.2.1
      rwa [Nat.gcd_zero_left] at h5
    have h11 : 1 % PP = 1 := by decide
    refine J.iconst (v := nI 0) C dX1_invert_313 (by decide) ?_
    refine J.istore_n (lv' := [(3, .int _), (0, .ref _), (1, .int _)]) C dX1_invert_314 rfl (by decide) rfl ?_
    refine J.perm (lv' := [(0, .ref _), (1, .int _), (3, .int _)]) [1, 2, 0] rfl ?_
    refine J.loop (head := 315) 24 (fun k f' g' => fil f1 6 0 (fun j => nI (dgt 65536 y j)) k f') (fun k => [(0, .ref (a 0)), (1, .int r), (3, .int (nI k))]) ?_ ?_ 24 0 _ _ rfl fil.zero
    · intro f' g' hF
      obtain hF := hF
      refine J.iload_n C dX1_invert_315 rfl 2 rfl ?_
      refine J.bipush (v := nI 24) C dX1_invert_316 (by decide) ?_
      refine J.ncmp_ge (tgt := 339) C dX1_invert_318 (by decide) (by first | omega | exact d16 _ _) (by first | omega | exact d16 _ _) (fun h => ?_) (fun h => ?_)
      · have hI2 := hI1.fil hF (by decide)
        have h2 := hF.rd
        refine J.aload_n C dX1_invert_339 rfl 0 rfl ?_
        refine J.iload_n C dX1_invert_340 rfl 1 rfl ?_
        refine J.aload_n C dX1_invert_341 rfl 0 rfl ?_
        refine J.get1 C 5 (by decide) q190 dX1_invert_342 ?_
        refine J.callV (rest := []) C (m_give (gk (by decide)) rfl hI2.1 h2) _ rfl q235 q237 qs9 q19 q238 (by show _ = _ ∧ _ ≠ _ ∧ _ ≠ _ ∧ _ = some 2; decide +kernel) ⟨by decide, by decide⟩ rfl (Nat.le_of_ble_eq_true rfl) dX1_invert_345 (fun v2 f3 g3 hR => ?_)
        obtain ⟨rfl, e3, h3⟩ := hR
        refine J.eqs (st' := []) rfl ?_
        refine J.iconst (v := nI 1) C dX1_invert_348 (by decide) ?_
        exact J.zret C rfl dX1_invert_349 (Or.inr ⟨hp0, rfl, y, hIW.2.2.1.2, by rw [hIW.2.2.2.2, hv1, h11], hI2.put e3 h3⟩)
      · exact absurd h (by omega)
    · intro k f' g' hk hF ih
      obtain hF := hF
      refine J.iload_n C dX1_invert_315 rfl 2 rfl ?_
      refine J.bipush (v := nI 24) C dX1_invert_316 (by decide) ?_
      refine J.ncmp_ge (tgt := 339) C dX1_invert_318 (by decide) (by first | omega | exact d16 _ _) (by first | omega | exact d16 _ _) (fun h => ?_) (fun h => ?_)
      · exact absurd h (by omega)
      · refine J.aload_n C dX1_invert_321 rfl 0 rfl ?_
        refine J.get1 C 5 (by decide) q190 dX1_invert_322 ?_
        refine J.iload_n C dX1_invert_325 rfl 2 rfl ?_
        refine J.aload_n C dX1_invert_326 rfl 0 rfl ?_
        refine J.get1 C 11 (by decide) q196 dX1_invert_327 ?_
        refine J.iload_n C dX1_invert_330 rfl 2 rfl ?_
        refine J.iald C (gk (by decide)) (by show _ < 25; omega) dX1_invert_331 ?_
        refine J.eqi (y := nI (dgt 65536 y k)) (by rw [hF.other (by decide)]; exact hy k (by omega)) ?_
        refine J.fast C hF (gk (by decide)) (Nat.zero_add k).symm (by show _ < 24; omega) rfl dX1_invert_332 (fun f' hF => ?_)
        refine J.inc (lv' := [(3, .int _), (0, .ref _), (1, .int _)]) C dX1_invert_333 2 rfl (by decide) rfl ?_
        refine J.goto (tgt := 315) C dX1_invert_336 (by decide) ?_
        refine J.perm (lv' := [(0, .ref _), (1, .int _), (3, .int _)]) [1, 2, 0] rfl ?_
        exact ih _ _ hF
  refine J.aload_n C dX1_invert_0 rfl 0 rfl ?_
  refine J.aload_n C dX1_invert_1 rfl 0 rfl ?_
  refine J.get1 C 6 (by decide) q191 dX1_invert_2 ?_
  refine J.iload_n C dX1_invert_5 rfl 2 rfl ?_
  refine J.callV (rest := []) C (m_take (gk (by decide)) rfl hI.1) _ rfl q247 q249 qs10 q19 q250 (by show _ = _ ∧ _ ≠ _ ∧ _ ≠ _ ∧ _ = some 2; decide +kernel) ⟨by decide, by decide⟩ rfl (Nat.le_of_ble_eq_true rfl) dX1_invert_6 (fun v1 f1 g1 hR => ?_)
  obtain ⟨rfl, h1⟩ := hR
  refine J.eqs (st' := []) rfl ?_
  have hI1 := hI.nu h1 (by decide)
  refine J.aload_n C dX1_invert_9 rfl 0 rfl ?_
  refine J.aload_n C dX1_invert_10 rfl 0 rfl ?_
  refine J.get1 C 6 (by decide) q191 dX1_invert_11 ?_
  refine J.callV (rest := []) C (m_isZero (gk (by decide)) rfl h1.2 (Nat.lt_trans (hV _ (rg_lt p)) P24)) _ rfl q263 q265 qs13 q19 q266 (by show _ = _ ∧ _ ≠ _ ∧ _ ≠ _ ∧ _ = some 1; decide +kernel) ⟨by decide, by decide⟩ rfl (Nat.le_of_ble_eq_true rfl) dX1_invert_14 (fun v1 f2 g2 hR => ?_)
  obtain ⟨rfl, e2⟩ := hR
  obtain rfl := e2.symm
  refine J.eqs (st' := [.int _]) rfl ?_
  refine J.if_eq (tgt := 22) C dX1_invert_17 (by decide) (fun c => ?_) (fun c => ?_)
  · have hp0 : V (rg p) ≠ 0 := fun q => absurd ((tf_t q).symm.trans c) (by decide)
    have lp := hV _ (rg_lt p)
    refine J.iconst (v := nI 0) C dX1_invert_22 (by decide) ?_
    refine J.istore_n (lv' := [(3, .int _), (0, .ref _), (1, .int _), (2, .int _)]) C dX1_invert_23 rfl (by decide) rfl ?_
    refine J.perm (lv' := [(0, .ref _), (1, .int _), (3, .int _)]) [1, 2, 0] rfl ?_
    refine J.loop (head := 24) 25 (fun k f' g' => (∀ j, j ≠ 9 → j ≠ 10 → j ≠ 11 → j ≠ 12 → f' j = f1 j) ∧ (∀ j, j < k → f' 9 j = nI (dgt 65536 (V (rg p)) j)) ∧ (∀ j, j < k → f' 10 j = nI (dgt 65536 PP j)) ∧ (∀ j, j < k → f' 11 j = nI 0) ∧ (∀ j, j < k → f' 12 j = nI 0)) (fun k => [(0, .ref (a 0)), (1, .int r), (3, .int (nI k))]) ?_ ?_ 25 0 _ _ rfl ⟨fun _ _ _ _ _ => rfl, fun _ h => absurd h (Nat.not_lt_zero _), fun _ h => absurd h (Nat.not_lt_zero _), fun _ h => absurd h (Nat.not_lt_zero _), fun _ h => absurd h (Nat.not_lt_zero _)⟩
    · intro f3 g3 hI2
      obtain ⟨hk0, hk1, hk2, hk3, hk4⟩ := hI2
      refine J.iload_n C dX1_invert_24 rfl 2 rfl ?_
      refine J.bipush (v := nI 25) C dX1_invert_25 (by decide) ?_
      refine J.ncmp_ge (tgt := 94) C dX1_invert_27 (by decide) (by first | omega | exact d16 _ _) (by first | omega | exact d16 _ _) (fun h => ?_) (fun h => ?_)
      · refine J.aload_n C dX1_invert_94 rfl 0 rfl ?_
        refine J.get1 C 10 (by decide) q195 dX1_invert_95 ?_
        refine J.iconst (v := nI 0) C dX1_invert_98 (by decide) ?_
        refine J.iconst (v := nI 1) C dX1_invert_99 (by decide) ?_
        refine J.iast C (gk (by decide)) (by show _ < 25; omega) dX1_invert_100 ?_
        refine J.perm (lv' := [(0, .ref _), (1, .int _)]) [0, 1] rfl ?_
        have hu : Rd 65536 25 ((va_up f3 11 (upd (f3 11) 0 (nI 1))) 9) (V (rg p)) := by rw [va_up_ne _ _ (by decide)]; exact hk1
        have hv : Rd 65536 25 ((va_up f3 11 (upd (f3 11) 0 (nI 1))) 10) PP := by rw [va_up_ne _ _ (by decide)]; exact hk2
        have hx : Rd 65536 25 ((va_up f3 11 (upd (f3 11) 0 (nI 1))) 11) 1 := by rw [va_up_self]; exact Rd.one okb16 pk_us (fun k hk e0 => by rw [pk_un e0]; exact hk3 k hk)
        have hy : Rd 65536 25 ((va_up f3 11 (upd (f3 11) 0 (nI 1))) 12) 0 := by rw [va_up_ne _ _ (by decide)]; exact Rd.zero hk4
        have hJ : MI V Ln (va_up f3 11 (upd (f3 11) 0 (nI 1))) := hI1.keep (by rw [va_up_ne _ _ (by decide), hk0 1 (by decide) (by decide) (by decide) (by decide)]) (by rw [va_up_ne _ _ (by decide), hk0 2 (by decide) (by decide) (by decide) (by decide)]) (by rw [va_up_ne _ _ (by decide), hk0 3 (by decide) (by decide) (by decide) (by decide)])
        generalize (va_up f3 11 (upd (f3 11) 0 (nI 1))) = f4 at hJ hu hv hx hy ⊢
        have hst := (iv_start (Nat.pos_of_ne_zero hp0) lp).iw
        refine J.loopM (head := 101) (fun q : Nat × Nat × Nat × Nat => q.1 + q.2.1) (fun q f' g' => MI V Ln f' ∧ Rd 65536 25 (f' 9) q.1 ∧ Rd 65536 25 (f' 10) q.2.1 ∧ Rd 65536 25 (f' 11) q.2.2.1 ∧ Rd 65536 25 (f' 12) q.2.2.2 ∧ IW (V (rg p)) q.1 q.2.1 q.2.2.1 q.2.2.2) (fun _ => [(0, .ref (a 0)), (1, .int r)]) ?_ (V (rg p) + PP + 1) (V (rg p), PP, 1, 0) _ _ (Nat.lt_succ_self _) ⟨hJ, hu, hv, hx, hy, hst⟩
        clear hJ hu hv hx hy hst f4 hk0 hk1 hk2 hk3 hk4 f3
        intro q f4 g4 hQ ih
        obtain ⟨u, v, x, y⟩ := q
        obtain ⟨hJ, hu, hv, hx, hy, hIW⟩ := hQ
        dsimp only at hu hv hx hy hIW ih
        have hP25 := P25
        have lu := hIW.1.2.1
        have lv := hIW.1.2.2
        refine J.aload_n C dX1_invert_101 rfl 0 rfl ?_
        refine J.get1 C 8 (by decide) q193 dX1_invert_102 ?_
        refine J.callS (rest := []) C (m_nought (gk (by decide)) rfl hu (by omega)) q303 q304 q19 q305 (by show _ ≠ _ ∧ _ ≠ _ ∧ _ = some 1; decide +kernel) ⟨by decide, by decide⟩ rfl (Nat.le_of_ble_eq_true rfl) dX1_invert_105 (fun v1 f5 g5 hR => ?_)
        obtain ⟨rfl, e2⟩ := hR
        obtain rfl := e2.symm
        refine J.eqs (st' := [.int _]) rfl ?_
        refine J.if_ne (tgt := 313) C dX1_invert_108 (by decide) (fun c => ?_) (fun c => ?_)
        · have c2 : u = 0 := Classical.byContradiction fun q => c (tf_f q)
          subst c2
          exact tail _ _ v x y hp0 hJ hy hIW
        · have hu0 : u ≠ 0 := fun q => absurd ((tf_t q).symm.trans c) (by decide)
          have hIV := hIW.iv hu0
          have hpb := hJ.2.2
          have hup := hIV.1.1
          have hvp := hIV.1.2.1
          refine J.loopM (head := 111) (fun q : Nat × Nat => q.1) (fun q f' g' => (∀ j, j ≠ 9 → j ≠ 11 → f' j = f4 j) ∧ Rd 65536 25 (f' 9) q.1 ∧ Rd 65536 25 (f' 11) q.2 ∧ 0 < q.1 ∧ q.1 ∣ u ∧ (u % 2 = 1 → q.1 = u) ∧ q.2 < PP ∧ ∀ p, (x * p) % PP = u % PP → (q.2 * p) % PP = q.1 % PP) (fun _ => [(0, .ref (a 0)), (1, .int r)]) ?_ (u + 1) (u, x) _ _ (Nat.lt_succ_self _) ⟨fun _ _ _ => rfl, hu, hx, hup, Nat.dvd_refl _, fun _ => rfl, hIV.2.2.1.1, fun _ h => h⟩
          intro q fi gi hQ ihi
          obtain ⟨u1, x1⟩ := q
          obtain ⟨hki, hu1, he1, pu1, du1, ou1, le1, ee1⟩ := hQ
          dsimp only at hu1 he1 pu1 du1 ou1 le1 ee1 ihi
          have lu25 : u1 < 65536 ^ 25 := Nat.lt_of_le_of_lt (Nat.le_of_dvd hup du1) (by have := P25; omega)
          have e0 : dgt 65536 u1 0 % 2 ^ 1 = u1 % 2 := by rw [dgt_0']; omega
          refine J.aload_n C dX1_invert_111 rfl 0 rfl ?_
          refine J.get1 C 8 (by decide) q193 dX1_invert_112 ?_
          refine J.iconst (v := nI 0) C dX1_invert_115 (by decide) ?_
          refine J.iald C (gk (by decide)) (by show _ < 25; omega) dX1_invert_116 ?_
          refine J.eqi (hu1 0 (by decide)) ?_
          refine J.iconst (v := nI 1) C dX1_invert_117 (by decide) ?_
          refine J.iand C dX1_invert_118 ?_
          refine J.eqi (w_and (m := 1) 1 (dgt_lt32 okb16 _ _) rfl (by decide)) ?_
          refine J.if_ne (tgt := 158) C dX1_invert_119 (by decide) (fun c => ?_) (fun c => ?_)
          · have c2 : u1 % 2 = 1 := by
              rcases Nat.mod_two_eq_zero_or_one u1 with q | q
              · exact absurd (by rw [e0, q]; rfl) c
              · exact q
            have hOD : OD u x u1 x1 := ⟨c2, pu1, du1, ou1, le1, ee1⟩
            have hJ1 : MI V Ln fi := hJ.two hki (by decide) (by decide)
            have hpb := hJ1.2.2
            have hvi : Rd 65536 25 (fi 10) v := by rw [hki 10 (by decide) (by decide)]; exact hv
            have hyi : Rd 65536 25 (fi 12) y := by rw [hki 12 (by decide) (by decide)]; exact hy
            have hu_ := hu1
            have hx_ := he1
            have hOU := hOD
            obtain ⟨fb, efb⟩ : ∃ fb, fb = fi := ⟨fi, rfl⟩
            rw [← efb] at hJ1 hpb hvi hyi hu_ hx_ ⊢
            clear efb hu1 he1 pu1 du1 ou1 le1 ee1 ihi hki c c2 e0 hOD lu25 fi
            refine J.loopM (head := 158) (fun q : Nat × Nat => q.1) (fun q f' g' => (∀ j, j ≠ 10 → j ≠ 12 → f' j = fb j) ∧ Rd 65536 25 (f' 10) q.1 ∧ Rd 65536 25 (f' 12) q.2 ∧ 0 < q.1 ∧ q.1 ∣ v ∧ (v % 2 = 1 → q.1 = v) ∧ q.2 < PP ∧ ∀ p, (y * p) % PP = v % PP → (q.2 * p) % PP = q.1 % PP) (fun _ => [(0, .ref (a 0)), (1, .int r)]) ?_ (v + 1) (v, y) _ _ (Nat.lt_succ_self _) ⟨fun _ _ _ => rfl, hvi, hyi, hvp, Nat.dvd_refl _, fun _ => rfl, hIV.2.2.1.2, fun _ h => h⟩
            intro q fi gi hQ ihi
            obtain ⟨v1, y1⟩ := q
            obtain ⟨hki, hu1, he1, pu1, du1, ou1, le1, ee1⟩ := hQ
            dsimp only at hu1 he1 pu1 du1 ou1 le1 ee1 ihi
            have lu25 : v1 < 65536 ^ 25 := Nat.lt_of_le_of_lt (Nat.le_of_dvd hvp du1) (by have := P25; omega)
            have e0 : dgt 65536 v1 0 % 2 ^ 1 = v1 % 2 := by rw [dgt_0']; omega
            refine J.aload_n C dX1_invert_158 rfl 0 rfl ?_
            refine J.get1 C 9 (by decide) q194 dX1_invert_159 ?_
            refine J.iconst (v := nI 0) C dX1_invert_162 (by decide) ?_
            refine J.iald C (gk (by decide)) (by show _ < 25; omega) dX1_invert_163 ?_
            refine J.eqi (hu1 0 (by decide)) ?_
            refine J.iconst (v := nI 1) C dX1_invert_164 (by decide) ?_
            refine J.iand C dX1_invert_165 ?_
            refine J.eqi (w_and (m := 1) 1 (dgt_lt32 okb16 _ _) rfl (by decide)) ?_
            refine J.if_ne (tgt := 205) C dX1_invert_166 (by decide) (fun c => ?_) (fun c => ?_)
            · have c2 : v1 % 2 = 1 := by
                rcases Nat.mod_two_eq_zero_or_one v1 with q | q
                · exact absurd (by rw [e0, q]; rfl) c
                · exact q
              have hOD : OD v y v1 y1 := ⟨c2, pu1, du1, ou1, le1, ee1⟩
              have hJ2 : MI V Ln fi := hJ1.two hki (by decide) (by decide)
              have hu2 : Rd 65536 25 (fi 9) u1 := by rw [hki 9 (by decide) (by decide)]; exact hu_
              have hx2 : Rd 65536 25 (fi 11) x1 := by rw [hki 11 (by decide) (by decide)]; exact hx_
              obtain ⟨hIX, lu1, lv1⟩ := iv_od hIV hOU hOD
              have lu2 := hIX.1.2.2.1
              have lv2 := hIX.1.2.2.2
              have pu2 := hIX.1.1
              have pv2 := hIX.1.2.1
              have lx2 := hIX.2.2.1.1
              have ly2 := hIX.2.2.1.2
              refine J.aload_n C dX1_invert_205 rfl 0 rfl ?_
              refine J.get1 C 8 (by decide) q193 dX1_invert_206 ?_
              refine J.aload_n C dX1_invert_209 rfl 0 rfl ?_
              refine J.get1 C 9 (by decide) q194 dX1_invert_210 ?_
              refine J.callS (rest := []) C (m_less (gk (by decide)) rfl (gk (by decide)) rfl hu2 hu1 (by omega) (by omega)) q313 q314 q19 q315 (by show _ ≠ _ ∧ _ ≠ _ ∧ _ = some 2; decide +kernel) ⟨by decide, by decide⟩ rfl (Nat.le_of_ble_eq_true rfl) dX1_invert_213 (fun v5 f5 g5 hR => ?_)
              obtain ⟨rfl, e2⟩ := hR
              obtain rfl := e2.symm
              refine J.eqs (st' := [.int _]) rfl ?_
              refine J.if_eq (tgt := 266) C dX1_invert_216 (by decide) (fun d3 => ?_) (fun d3 => ?_)
              · have c3 : v1 ≤ u1 := Nat.le_of_not_lt fun q => absurd ((tf_t q).symm.trans d3) (by decide)
                refine J.aload_n C dX1_invert_266 rfl 0 rfl ?_
                refine J.get1 C 8 (by decide) q193 dX1_invert_267 ?_
                refine J.aload_n C dX1_invert_270 rfl 0 rfl ?_
                refine J.get1 C 9 (by decide) q194 dX1_invert_271 ?_
                refine J.callS (rest := []) C (m_lessen (gk (by decide)) rfl (gk (by decide)) rfl hu2 hu1 (by omega)) q316 q317 q19 q318 (by show _ ≠ _ ∧ _ ≠ _ ∧ _ = some 2; decide +kernel) ⟨by decide, by decide⟩ rfl (Nat.le_of_ble_eq_true rfl) dX1_invert_274 (fun v6 f6 g6 hR => ?_)
                obtain ⟨rfl, h6⟩ := hR
                refine J.eqs (st' := []) rfl ?_
                have h6 := h6.md okb16 (q_sub25 c3)
                have hj1 := h6.keep hx2 (by decide)
                have hj2 := h6.keep he1 (by decide)
                have hst : ∀ (f7 : gF) (g7 : gG), (∀ j, j ≠ 11 → f7 j = f6 j) → Rd 65536 25 (f7 11) (if x1 < y1 then x1 + PP else x1) → J z f7 g7 299 [(0, .ref (a 0)), (1, .int r)] [] := by
                  intro f7 g7 hk7 hs7
                  refine J.aload_n C dX1_invert_299 rfl 0 rfl ?_
                  refine J.get1 C 10 (by decide) q195 dX1_invert_300 ?_
                  refine J.aload_n C dX1_invert_303 rfl 0 rfl ?_
                  refine J.get1 C 11 (by decide) q196 dX1_invert_304 ?_
                  refine J.callS (rest := []) C (m_lessen (gk (by decide)) rfl (gk (by decide)) rfl hs7 (by rw [hk7 _ (by decide)]; exact hj2) (by omega)) q316 q317 q19 q318 (by show _ ≠ _ ∧ _ ≠ _ ∧ _ = some 2; decide +kernel) ⟨by decide, by decide⟩ rfl (Nat.le_of_ble_eq_true rfl) dX1_invert_307 (fun v8 f8 g8 hR => ?_)
                  obtain ⟨rfl, h8⟩ := hR
                  refine J.eqs (st' := []) rfl ?_
                  have h8 := h8.md okb16 (q_dif25 lx2 ly2)
                  refine J.goto (tgt := 101) C dX1_invert_310 (by decide) ?_
                  have hk8 : ∀ j, j ≠ 9 → j ≠ 11 → f8 j = fi j := fun j h9 h10 => by rw [h8.ne h10, hk7 j h10, h6.ne h9]
                  have hJ8 : MI V Ln f8 := hJ2.two hk8 (by decide) (by decide)
                  have hi8 : Rd 65536 25 (f8 9) (u1 - v1) := by rw [h8.ne (by decide), hk7 _ (by decide)]; exact h6.2
                  have ho1 : Rd 65536 25 (f8 10) v1 := by rw [hk8 _ (by decide) (by decide)]; exact hu1
                  have ho2 : Rd 65536 25 (f8 12) y1 := by rw [hk8 _ (by decide) (by decide)]; exact he1
                  exact ih (u1 - v1, v1, (x1 + PP - y1) % PP, y1) _ _ ⟨hJ8, hi8, ho1, h8.2, ho2, iw_ge hIX c3⟩ (by dsimp only; omega)
                refine J.aload_n C dX1_invert_277 rfl 0 rfl ?_
                refine J.get1 C 10 (by decide) q195 dX1_invert_278 ?_
                refine J.aload_n C dX1_invert_281 rfl 0 rfl ?_
                refine J.get1 C 11 (by decide) q196 dX1_invert_282 ?_
                refine J.callS (rest := []) C (m_less (gk (by decide)) rfl (gk (by decide)) rfl hj1 hj2 (by omega) (by omega)) q313 q314 q19 q315 (by show _ ≠ _ ∧ _ ≠ _ ∧ _ = some 2; decide +kernel) ⟨by decide, by decide⟩ rfl (Nat.le_of_ble_eq_true rfl) dX1_invert_285 (fun v7 f7 g7 hR => ?_)
                obtain ⟨rfl, e2⟩ := hR
                obtain rfl := e2.symm
                refine J.eqs (st' := [.int _]) rfl ?_
                refine J.if_eq (tgt := 299) C dX1_invert_288 (by decide) (fun d4 => ?_) (fun d4 => ?_)
                · have c4 : ¬ x1 < y1 := fun q => absurd ((tf_t q).symm.trans d4) (by decide)
                  exact hst _ _ (fun _ _ => rfl) (by rw [if_neg c4]; exact hj1)
                · have c4 : x1 < y1 := Classical.byContradiction fun q => d4 (tf_f q)
                  have hp6 : Rd 65536 24 (f6 3) PP := by rw [h6.ne (by decide)]; exact hJ2.2.2
                  refine J.aload_n C dX1_invert_291 rfl 0 rfl ?_
                  refine J.aload_n C dX1_invert_292 rfl 0 rfl ?_
                  refine J.get1 C 10 (by decide) q195 dX1_invert_293 ?_
                  refine J.callV (rest := []) C (m_more (gk (by decide)) rfl hp6 hj1) _ rfl q309 q311 qs16 q19 q312 (by show _ = _ ∧ _ ≠ _ ∧ _ ≠ _ ∧ _ = some 1; decide +kernel) ⟨by decide, by decide⟩ rfl (Nat.le_of_ble_eq_true rfl) dX1_invert_296 (fun v7 f7 g7 hR => ?_)
                  obtain ⟨rfl, h7⟩ := hR
                  refine J.eqs (st' := []) rfl ?_
                  exact hst _ _ (fun j hj => h7.ne hj) (by rw [if_pos c4]; exact h7.2)
              · have c3 : u1 < v1 := Classical.byContradiction fun q => d3 (tf_f q)
                refine J.aload_n C dX1_invert_219 rfl 0 rfl ?_
                refine J.get1 C 9 (by decide) q194 dX1_invert_220 ?_
                refine J.aload_n C dX1_invert_223 rfl 0 rfl ?_
                refine J.get1 C 8 (by decide) q193 dX1_invert_224 ?_
                refine J.callS (rest := []) C (m_lessen (gk (by decide)) rfl (gk (by decide)) rfl hu1 hu2 (by omega)) q316 q317 q19 q318 (by show _ ≠ _ ∧ _ ≠ _ ∧ _ = some 2; decide +kernel) ⟨by decide, by decide⟩ rfl (Nat.le_of_ble_eq_true rfl) dX1_invert_227 (fun v6 f6 g6 hR => ?_)
                obtain ⟨rfl, h6⟩ := hR
                refine J.eqs (st' := []) rfl ?_
                have h6 := h6.md okb16 (q_sub25 (Nat.le_of_lt c3))
                have hj1 := h6.keep he1 (by decide)
                have hj2 := h6.keep hx2 (by decide)
                have hst : ∀ (f7 : gF) (g7 : gG), (∀ j, j ≠ 12 → f7 j = f6 j) → Rd 65536 25 (f7 12) (if y1 < x1 then y1 + PP else y1) → J z f7 g7 252 [(0, .ref (a 0)), (1, .int r)] [] := by
                  intro f7 g7 hk7 hs7
                  refine J.aload_n C dX1_invert_252 rfl 0 rfl ?_
                  refine J.get1 C 11 (by decide) q196 dX1_invert_253 ?_
                  refine J.aload_n C dX1_invert_256 rfl 0 rfl ?_
                  refine J.get1 C 10 (by decide) q195 dX1_invert_257 ?_
                  refine J.callS (rest := []) C (m_lessen (gk (by decide)) rfl (gk (by decide)) rfl hs7 (by rw [hk7 _ (by decide)]; exact hj2) (by omega)) q316 q317 q19 q318 (by show _ ≠ _ ∧ _ ≠ _ ∧ _ = some 2; decide +kernel) ⟨by decide, by decide⟩ rfl (Nat.le_of_ble_eq_true rfl) dX1_invert_260 (fun v8 f8 g8 hR => ?_)
                  obtain ⟨rfl, h8⟩ := hR
                  refine J.eqs (st' := []) rfl ?_
                  have h8 := h8.md okb16 (q_dif25 ly2 lx2)
                  refine J.goto (tgt := 101) C dX1_invert_263 (by decide) ?_
                  have hk8 : ∀ j, j ≠ 10 → j ≠ 12 → f8 j = fi j := fun j h9 h10 => by rw [h8.ne h10, hk7 j h10, h6.ne h9]
                  have hJ8 : MI V Ln f8 := hJ2.two hk8 (by decide) (by decide)
                  have hi8 : Rd 65536 25 (f8 10) (v1 - u1) := by rw [h8.ne (by decide), hk7 _ (by decide)]; exact h6.2
                  have ho1 : Rd 65536 25 (f8 9) u1 := by rw [hk8 _ (by decide) (by decide)]; exact hu2
                  have ho2 : Rd 65536 25 (f8 11) x1 := by rw [hk8 _ (by decide) (by decide)]; exact hx2
                  exact ih (u1, v1 - u1, x1, (y1 + PP - x1) % PP) _ _ ⟨hJ8, ho1, hi8, ho2, h8.2, (iv_lt hIX c3).iw⟩ (by dsimp only; omega)
                refine J.aload_n C dX1_invert_230 rfl 0 rfl ?_
                refine J.get1 C 11 (by decide) q196 dX1_invert_231 ?_
                refine J.aload_n C dX1_invert_234 rfl 0 rfl ?_
                refine J.get1 C 10 (by decide) q195 dX1_invert_235 ?_
                refine J.callS (rest := []) C (m_less (gk (by decide)) rfl (gk (by decide)) rfl hj1 hj2 (by omega) (by omega)) q313 q314 q19 q315 (by show _ ≠ _ ∧ _ ≠ _ ∧ _ = some 2; decide +kernel) ⟨by decide, by decide⟩ rfl (Nat.le_of_ble_eq_true rfl) dX1_invert_238 (fun v7 f7 g7 hR => ?_)
                obtain ⟨rfl, e2⟩ := hR
                obtain rfl := e2.symm
                refine J.eqs (st' := [.int _]) rfl ?_
                refine J.if_eq (tgt := 252) C dX1_invert_241 (by decide) (fun d4 => ?_) (fun d4 => ?_)
                · have c4 : ¬ y1 < x1 := fun q => absurd ((tf_t q).symm.trans d4) (by decide)
                  exact hst _ _ (fun _ _ => rfl) (by rw [if_neg c4]; exact hj1)
                · have c4 : y1 < x1 := Classical.byContradiction fun q => d4 (tf_f q)
                  have hp6 : Rd 65536 24 (f6 3) PP := by rw [h6.ne (by decide)]; exact hJ2.2.2
                  refine J.aload_n C dX1_invert_244 rfl 0 rfl ?_
                  refine J.aload_n C dX1_invert_245 rfl 0 rfl ?_
                  refine J.get1 C 11 (by decide) q196 dX1_invert_246 ?_
                  refine J.callV (rest := []) C (m_more (gk (by decide)) rfl hp6 hj1) _ rfl q309 q311 qs16 q19 q312 (by show _ = _ ∧ _ ≠ _ ∧ _ ≠ _ ∧ _ = some 1; decide +kernel) ⟨by decide, by decide⟩ rfl (Nat.le_of_ble_eq_true rfl) dX1_invert_249 (fun v7 f7 g7 hR => ?_)
                  obtain ⟨rfl, h7⟩ := hR
                  refine J.eqs (st' := []) rfl ?_
                  exact hst _ _ (fun j hj => h7.ne hj) (by rw [if_pos c4]; exact h7.2)
            · have c2 : v1 % 2 = 0 := by
                rcases Nat.mod_two_eq_zero_or_one v1 with q | q
                · exact q
                · rw [e0, q] at c; exact absurd c (by decide)
              refine J.aload_n C dX1_invert_169 rfl 0 rfl ?_
              refine J.get1 C 9 (by decide) q194 dX1_invert_170 ?_
              refine J.callS (rest := []) C (m_half (gk (by decide)) rfl hu1 lu25) q306 q307 q19 q308 (by show _ ≠ _ ∧ _ ≠ _ ∧ _ = some 1; decide +kernel) ⟨by decide, by decide⟩ rfl (Nat.le_of_ble_eq_true rfl) dX1_invert_173 (fun v5 f5 g5 hR => ?_)
              obtain ⟨rfl, h5⟩ := hR
              refine J.eqs (st' := []) rfl ?_
              have he5 := h5.keep he1 (by decide)
              have hst : ∀ (f6 : gF) (g6 : gG) (S : Nat), (∀ j, j ≠ 12 → f6 j = f5 j) → Rd 65536 25 (f6 12) S → S < 65536 ^ 25 → S / 2 = hf y1 → J z f6 g6 195 [(0, .ref (a 0)), (1, .int r)] [] := by
                intro f6 g6 S hk6 hS6 lS6 eS6
                refine J.aload_n C dX1_invert_195 rfl 0 rfl ?_
                refine J.get1 C 11 (by decide) q196 dX1_invert_196 ?_
                refine J.callS (rest := []) C (m_half (gk (by decide)) rfl hS6 lS6) q306 q307 q19 q308 (by show _ ≠ _ ∧ _ ≠ _ ∧ _ = some 1; decide +kernel) ⟨by decide, by decide⟩ rfl (Nat.le_of_ble_eq_true rfl) dX1_invert_199 (fun v7 f7 g7 hR => ?_)
                obtain ⟨rfl, h7⟩ := hR
                refine J.eqs (st' := []) rfl ?_
                have h7 := h7.val eS6
                refine J.goto (tgt := 158) C dX1_invert_202 (by decide) ?_
                refine ihi (v1 / 2, hf y1) _ _ ⟨fun j h8 h9 => ?_, ?_, h7.2, by omega, Nat.dvd_trans ⟨2, by omega⟩ du1, fun q => ?_, hf_lt le1, fun p h8 => hf_goes c2 (ee1 p h8)⟩ (by dsimp only; omega)
                · rw [h7.ne h9, hk6 j h9, h5.ne h8, hki j h8 h9]
                · rw [h7.ne (by decide), hk6 _ (by decide)]; exact h5.2
                · have := ou1 q; omega
              have e1 : dgt 65536 y1 0 % 2 ^ 1 = y1 % 2 := by rw [dgt_0']; omega
              refine J.aload_n C dX1_invert_176 rfl 0 rfl ?_
              refine J.get1 C 11 (by decide) q196 dX1_invert_177 ?_
              refine J.iconst (v := nI 0) C dX1_invert_180 (by decide) ?_
              refine J.iald C (gk (by decide)) (by show _ < 25; omega) dX1_invert_181 ?_
              refine J.eqi (he5 0 (by decide)) ?_
              refine J.iconst (v := nI 1) C dX1_invert_182 (by decide) ?_
              refine J.iand C dX1_invert_183 ?_
              refine J.eqi (w_and (m := 1) 1 (dgt_lt32 okb16 _ _) rfl (by decide)) ?_
              refine J.if_eq (tgt := 195) C dX1_invert_184 (by decide) (fun d1 => ?_) (fun d1 => ?_)
              · have d2 : y1 % 2 = 0 := by
                  rcases Nat.mod_two_eq_zero_or_one y1 with q | q
                  · exact q
                  · rw [e1, q] at d1; exact absurd d1 (by decide)
                exact hst _ _ y1 (fun _ _ => rfl) he5 (by have := P25; omega) (by unfold hf; rw [if_pos d2])
              · have d2 : ¬ y1 % 2 = 0 := fun q => d1 (by rw [e1, q]; rfl)
                have hp5 : Rd 65536 24 (f5 3) PP := by rw [h5.ne (by decide), hki 3 (by decide) (by decide)]; exact hpb
                refine J.aload_n C dX1_invert_187 rfl 0 rfl ?_
                refine J.aload_n C dX1_invert_188 rfl 0 rfl ?_
                refine J.get1 C 11 (by decide) q196 dX1_invert_189 ?_
                refine J.callV (rest := []) C (m_more (gk (by decide)) rfl hp5 he5) _ rfl q309 q311 qs16 q19 q312 (by show _ = _ ∧ _ ≠ _ ∧ _ ≠ _ ∧ _ = some 1; decide +kernel) ⟨by decide, by decide⟩ rfl (Nat.le_of_ble_eq_true rfl) dX1_invert_192 (fun v6 f6 g6 hR => ?_)
                obtain ⟨rfl, h6⟩ := hR
                refine J.eqs (st' := []) rfl ?_
                exact hst _ _ (y1 + PP) (fun j hj => h6.ne hj) h6.2 (by have := P25; omega) (by unfold hf; rw [if_neg d2])
          · have c2 : u1 % 2 = 0 := by
              rcases Nat.mod_two_eq_zero_or_one u1 with q | q
              · exact q
              · rw [e0, q] at c; exact absurd c (by decide)
            refine J.aload_n C dX1_invert_122 rfl 0 rfl ?_
            refine J.get1 C 8 (by decide) q193 dX1_invert_123 ?_
            refine J.callS (rest := []) C (m_half (gk (by decide)) rfl hu1 lu25) q306 q307 q19 q308 (by show _ ≠ _ ∧ _ ≠ _ ∧ _ = some 1; decide +kernel) ⟨by decide, by decide⟩ rfl (Nat.le_of_ble_eq_true rfl) dX1_invert_126 (fun v5 f5 g5 hR => ?_)
            obtain ⟨rfl, h5⟩ := hR
            refine J.eqs (st' := []) rfl ?_
            have he5 := h5.keep he1 (by decide)
            have hst : ∀ (f6 : gF) (g6 : gG) (S : Nat), (∀ j, j ≠ 11 → f6 j = f5 j) → Rd 65536 25 (f6 11) S → S < 65536 ^ 25 → S / 2 = hf x1 → J z f6 g6 148 [(0, .ref (a 0)), (1, .int r)] [] := by
              intro f6 g6 S hk6 hS6 lS6 eS6
              refine J.aload_n C dX1_invert_148 rfl 0 rfl ?_
              refine J.get1 C 10 (by decide) q195 dX1_invert_149 ?_
              refine J.callS (rest := []) C (m_half (gk (by decide)) rfl hS6 lS6) q306 q307 q19 q308 (by show _ ≠ _ ∧ _ ≠ _ ∧ _ = some 1; decide +kernel) ⟨by decide, by decide⟩ rfl (Nat.le_of_ble_eq_true rfl) dX1_invert_152 (fun v7 f7 g7 hR => ?_)
              obtain ⟨rfl, h7⟩ := hR
              refine J.eqs (st' := []) rfl ?_
              have h7 := h7.val eS6
              refine J.goto (tgt := 111) C dX1_invert_155 (by decide) ?_
              refine ihi (u1 / 2, hf x1) _ _ ⟨fun j h8 h9 => ?_, ?_, h7.2, by omega, Nat.dvd_trans ⟨2, by omega⟩ du1, fun q => ?_, hf_lt le1, fun p h8 => hf_goes c2 (ee1 p h8)⟩ (by dsimp only; omega)
              · rw [h7.ne h9, hk6 j h9, h5.ne h8, hki j h8 h9]
              · rw [h7.ne (by decide), hk6 _ (by decide)]; exact h5.2
              · have := ou1 q; omega
            have e1 : dgt 65536 x1 0 % 2 ^ 1 = x1 % 2 := by rw [dgt_0']; omega
            refine J.aload_n C dX1_invert_129 rfl 0 rfl ?_
            refine J.get1 C 10 (by decide) q195 dX1_invert_130 ?_
            refine J.iconst (v := nI 0) C dX1_invert_133 (by decide) ?_
            refine J.iald C (gk (by decide)) (by show _ < 25; omega) dX1_invert_134 ?_
            refine J.eqi (he5 0 (by decide)) ?_
            refine J.iconst (v := nI 1) C dX1_invert_135 (by decide) ?_
            refine J.iand C dX1_invert_136 ?_
            refine J.eqi (w_and (m := 1) 1 (dgt_lt32 okb16 _ _) rfl (by decide)) ?_
            refine J.if_eq (tgt := 148) C dX1_invert_137 (by decide) (fun d1 => ?_) (fun d1 => ?_)
            · have d2 : x1 % 2 = 0 := by
                rcases Nat.mod_two_eq_zero_or_one x1 with q | q
                · exact q
                · rw [e1, q] at d1; exact absurd d1 (by decide)
              exact hst _ _ x1 (fun _ _ => rfl) he5 (by have := P25; omega) (by unfold hf; rw [if_pos d2])
            · have d2 : ¬ x1 % 2 = 0 := fun q => d1 (by rw [e1, q]; rfl)
              have hp5 : Rd 65536 24 (f5 3) PP := by rw [h5.ne (by decide), hki 3 (by decide) (by decide)]; exact hpb
              refine J.aload_n C dX1_invert_140 rfl 0 rfl ?_
              refine J.aload_n C dX1_invert_141 rfl 0 rfl ?_
              refine J.get1 C 10 (by decide) q195 dX1_invert_142 ?_
              refine J.callV (rest := []) C (m_more (gk (by decide)) rfl hp5 he5) _ rfl q309 q311 qs16 q19 q312 (by show _ = _ ∧ _ ≠ _ ∧ _ ≠ _ ∧ _ = some 1; decide +kernel) ⟨by decide, by decide⟩ rfl (Nat.le_of_ble_eq_true rfl) dX1_invert_145 (fun v6 f6 g6 hR => ?_)
              obtain ⟨rfl, h6⟩ := hR
              refine J.eqs (st' := []) rfl ?_
              exact hst _ _ (x1 + PP) (fun j hj => h6.ne hj) h6.2 (by have := P25; omega) (by unfold hf; rw [if_neg d2])
      · exact absurd h (by omega)
    · intro k f3 g3 hk hI2 ihk
      obtain ⟨hk0, hk1, hk2, hk3, hk4⟩ := hI2
      refine J.iload_n C dX1_invert_24 rfl 2 rfl ?_
      refine J.bipush (v := nI 25) C dX1_invert_25 (by decide) ?_
      refine J.ncmp_ge (tgt := 94) C dX1_invert_27 (by decide) (by first | omega | exact d16 _ _) (by first | omega | exact d16 _ _) (fun h => ?_) (fun h => ?_)
      · exact absurd h (by omega)
      · refine J.aload_n C dX1_invert_30 rfl 0 rfl ?_
        refine J.get1 C 8 (by decide) q193 dX1_invert_31 ?_
        refine J.iload_n C dX1_invert_34 rfl 2 rfl ?_
        refine J.iload_n C dX1_invert_35 rfl 2 rfl ?_
        refine J.bipush (v := nI 24) C dX1_invert_36 (by decide) ?_
        refine J.ncmp_ge (tgt := 50) C dX1_invert_38 (by decide) (by first | omega | exact d16 _ _) (by first | omega | exact d16 _ _) (fun h => ?_) (fun h => ?_)
        · refine J.iconst (v := nI 0) C dX1_invert_50 (by decide) ?_
          refine J.iast C (gk (by decide)) (by show _ < 25; omega) dX1_invert_51 ?_
          refine J.aload_n C dX1_invert_52 rfl 0 rfl ?_
          refine J.get1 C 9 (by decide) q194 dX1_invert_53 ?_
          refine J.iload_n C dX1_invert_56 rfl 2 rfl ?_
          refine J.iload_n C dX1_invert_57 rfl 2 rfl ?_
          refine J.bipush (v := nI 24) C dX1_invert_58 (by decide) ?_
          refine J.ncmp_ge (tgt := 72) C dX1_invert_60 (by decide) (by first | omega | exact d16 _ _) (by first | omega | exact d16 _ _) (fun h2 => ?_) (fun h2 => ?_)
          · refine J.iconst (v := nI 0) C dX1_invert_72 (by decide) ?_
            refine J.iast C (gk (by decide)) (by show _ < 25; omega) dX1_invert_73 ?_
            refine J.aload_n C dX1_invert_74 rfl 0 rfl ?_
            refine J.get1 C 10 (by decide) q195 dX1_invert_75 ?_
            refine J.iload_n C dX1_invert_78 rfl 2 rfl ?_
            refine J.iconst (v := nI 0) C dX1_invert_79 (by decide) ?_
            refine J.iast C (gk (by decide)) (by show _ < 25; omega) dX1_invert_80 ?_
            refine J.aload_n C dX1_invert_81 rfl 0 rfl ?_
            refine J.get1 C 11 (by decide) q196 dX1_invert_82 ?_
            refine J.iload_n C dX1_invert_85 rfl 2 rfl ?_
            refine J.iconst (v := nI 0) C dX1_invert_86 (by decide) ?_
            refine J.iast C (gk (by decide)) (by show _ < 25; omega) dX1_invert_87 ?_
            refine J.inc (lv' := [(3, .int _), (0, .ref _), (1, .int _)]) C dX1_invert_88 2 rfl (by decide) rfl ?_
            refine J.goto (tgt := 24) C dX1_invert_91 (by decide) ?_
            refine J.perm (lv' := [(0, .ref _), (1, .int _), (3, .int _)]) [1, 2, 0] rfl ?_
            refine ihk _ _ ⟨fun j h9 h10 h11 h12 => ?_, fun j hj => ?_, fun j hj => ?_, fun j hj => ?_, fun j hj => ?_⟩
            · simp only [va_up, if_neg h9, if_neg h10, if_neg h11, if_neg h12]
              exact hk0 j h9 h10 h11 h12
            · by_cases ej : j = k
              · subst ej; simp [va_up, upd, dgt_hi (Nat.lt_trans lp P24) h okb16]
              · simp [va_up, upd, ej]; exact hk1 j (by omega)
            · by_cases ej : j = k
              · subst ej; simp [va_up, upd, dgt_hi P24 h okb16]
              · simp [va_up, upd, ej]; exact hk2 j (by omega)
            · by_cases ej : j = k
              · subst ej; simp [va_up, upd]
              · simp [va_up, upd, ej]; exact hk3 j (by omega)
            · by_cases ej : j = k
              · subst ej; simp [va_up, upd]
              · simp [va_up, upd, ej]; exact hk4 j (by omega)
          · exact absurd h2 (by omega)
        · refine J.aload_n C dX1_invert_41 rfl 0 rfl ?_
          refine J.get1 C 6 (by decide) q191 dX1_invert_42 ?_
          refine J.iload_n C dX1_invert_45 rfl 2 rfl ?_
          refine J.iald C (gk (by decide)) (by show _ < 24; omega) dX1_invert_46 ?_
          refine J.eqi (y := nI (dgt 65536 (V (rg p)) k)) (by rw [hk0 7 (by decide) (by decide) (by decide) (by decide)]; exact h1.2 k (by omega)) ?_
          refine J.goto (tgt := 51) C dX1_invert_47 (by decide) ?_
          refine J.iast C (gk (by decide)) (by show _ < 25; omega) dX1_invert_51 ?_
          refine J.aload_n C dX1_invert_52 rfl 0 rfl ?_
          refine J.get1 C 9 (by decide) q194 dX1_invert_53 ?_
          refine J.iload_n C dX1_invert_56 rfl 2 rfl ?_
          refine J.iload_n C dX1_invert_57 rfl 2 rfl ?_
          refine J.bipush (v := nI 24) C dX1_invert_58 (by decide) ?_
          refine J.ncmp_ge (tgt := 72) C dX1_invert_60 (by decide) (by first | omega | exact d16 _ _) (by first | omega | exact d16 _ _) (fun h2 => ?_) (fun h2 => ?_)
          · exact absurd h2 (by omega)
          · refine J.aload_n C dX1_invert_63 rfl 0 rfl ?_
            refine J.get1 C 2 (by decide) q187 dX1_invert_64 ?_
            refine J.iload_n C dX1_invert_67 rfl 2 rfl ?_
            refine J.iald C (gk (by decide)) (by show _ < 24; omega) dX1_invert_68 ?_
            refine J.eqi (y := nI (dgt 65536 PP k)) (by rw [va_up_ne _ _ (by decide), hk0 3 (by decide) (by decide) (by decide) (by decide)]; exact hI1.2.2 k (by omega)) ?_
            refine J.goto (tgt := 73) C dX1_invert_69 (by decide) ?_
            refine J.iast C (gk (by decide)) (by show _ < 25; omega) dX1_invert_73 ?_
            refine J.aload_n C dX1_invert_74 rfl 0 rfl ?_
            refine J.get1 C 10 (by decide) q195 dX1_invert_75 ?_
            refine J.iload_n C dX1_invert_78 rfl 2 rfl ?_
            refine J.iconst (v := nI 0) C dX1_invert_79 (by decide) ?_
            refine J.iast C (gk (by decide)) (by show _ < 25; omega) dX1_invert_80 ?_
            refine J.aload_n C dX1_invert_81 rfl 0 rfl ?_
            refine J.get1 C 11 (by decide) q196 dX1_invert_82 ?_
            refine J.iload_n C dX1_invert_85 rfl 2 rfl ?_
            refine J.iconst (v := nI 0) C dX1_invert_86 (by decide) ?_
            refine J.iast C (gk (by decide)) (by show _ < 25; omega) dX1_invert_87 ?_
            refine J.inc (lv' := [(3, .int _), (0, .ref _), (1, .int _)]) C dX1_invert_88 2 rfl (by decide) rfl ?_
            refine J.goto (tgt := 24) C dX1_invert_91 (by decide) ?_
            refine J.perm (lv' := [(0, .ref _), (1, .int _), (3, .int _)]) [1, 2, 0] rfl ?_
            refine ihk _ _ ⟨fun j h9 h10 h11 h12 => ?_, fun j hj => ?_, fun j hj => ?_, fun j hj => ?_, fun j hj => ?_⟩
            · simp only [va_up, if_neg h9, if_neg h10, if_neg h11, if_neg h12]
              exact hk0 j h9 h10 h11 h12
            · by_cases ej : j = k
              · subst ej; simp [va_up, upd]
              · simp [va_up, upd, ej]; exact hk1 j (by omega)
            · by_cases ej : j = k
              · subst ej; simp [va_up, upd]
              · simp [va_up, upd, ej]; exact hk2 j (by omega)
            · by_cases ej : j = k
              · subst ej; simp [va_up, upd]
              · simp [va_up, upd, ej]; exact hk3 j (by omega)
            · by_cases ej : j = k
              · subst ej; simp [va_up, upd]
              · simp [va_up, upd, ej]; exact hk4 j (by omega)
  · have hp0 : V (rg p) = 0 := Classical.byContradiction fun q => c (tf_f q)
    refine J.iconst (v := nI 0) C dX1_invert_20 (by decide) ?_
    exact J.zret C rfl dX1_invert_21 (Or.inl ⟨hp0, rfl, hI1⟩)
end Min
end
section
section Xni
theorem ka_eq {D : va_G} {d dL cA : ClassId} {s : State} (h : va_K D vwCl (gTys d dL ++ [(cA, .int)]) s) : d = cA := Option.some.inj (((h.2 0 (d, .int) rfl).2).symm.trans ((h.2 2 (cA, .int) rfl).2))
theorem ka_eqL {D : va_G} {d dL cA : ClassId} {s : State} (h : va_K D vwCl (gTys d dL ++ [(cA, .long)]) s) : dL = cA := Option.some.inj (((h.2 1 (dL, .long) rfl).2).symm.trans ((h.2 2 (cA, .long) rfl).2))
abbrev gNul : List Value := [.null, .null, .null, .null, .null, .null, .null, .null, .null, .null, .null, .null]
theorem gw_A {A : Nat → Prop} {ci : Nat} {d dL : ClassId} {a : Nat → Nat} {f : gF} {g : gG} (h : va_D A (gw ci d dL a f g)) : ∀ q, gA a q → A q := by
  rintro q ⟨k, hk, rfl⟩
  rcases Nat.eq_zero_or_pos k with e | e
  · subst e
    exact h.2 0 _ gw_at0
  · exact h.2 k _ (gw_atE (by omega))
/-- what a constructor leaves -/
abbrev gNew (D : va_G) (d dL : ClassId) (ci : Nat) (h0 sz : Nat) (Iv : gF → Prop) : Array Value → State → Outcome → State → Prop := va_Qv (fun u : (Nat → Nat) × gF × gG => u.1 0 = h0 ∧ Iv u.2.1) (fun u t => va_P D vwCl (gw ci d dL u.1 u.2.1 u.2.2) t.heap ∧ va_K D vwCl (gTys d dL) t ∧ va_D (va_A [(h0, .inr (ci, gNul))] sz) (gw ci d dL u.1 u.2.1 u.2.2)) (va_A [(h0, .inr (ci, gNul))] sz)
abbrev gStart (D : va_G) (d dL : ClassId) (ci : Nat) (h0 sz : Nat) : Array Value → State → Prop := va_Pc [.ref h0] (fun U => U.heap.size = sz ∧ va_P D vwCl [(h0, .inr (ci, gNul))] U.heap ∧ va_K D vwCl (gTys d dL) U ∧ va_D (fun _ => True) [(h0, .inr (ci, gNul))])
set_option maxHeartbeats 4000000 in
set_option maxRecDepth 100000 in
theorem x_init_tail {z : gZ} {l : Launch} {a : Nat → Nat} {D : va_G} {d dL : ClassId} (C : gOK z l cX0_init RX0 0 a D d dL 2 none (fun v f' g' => v = none ∧ XI (fun _ => 0) 0 f') ({ frames := 2, cells := 12, slots := 182, locals := 49 })) (g : gG) : J z (fun _ _ => 0) g 100 [(0, .ref (a 0))] [] := by
  refine J.iconst (v := nI 0) C dX0_init_100 (by decide) ?_
  refine J.istore_n (lv' := [(1, .int _), (0, .ref _)]) C dX0_init_101 rfl (by decide) rfl ?_
  refine J.perm (lv' := [(0, .ref _), (1, .int _)]) [1, 0] rfl ?_
  refine J.loop (head := 102) 12 (fun k f' g' => fil (fun _ _ => 0) 3 0 (fun _ => -1) k f') (fun k => [(0, .ref (a 0)), (1, .int (nI k))]) ?_ ?_ 12 0 _ _ rfl fil.zero
  · intro f' g' hI
    obtain hI := hI
    refine J.iload_n C dX0_init_102 rfl 1 rfl ?_
    refine J.bipush (v := nI 12) C dX0_init_103 (by decide) ?_
    refine J.ncmp_ge (tgt := 121) C dX0_init_105 (by decide) (by omega) (by omega) (fun h => ?_) (fun h => ?_)
    · refine J.aload_n C dX0_init_121 rfl 0 rfl ?_
      refine J.get0 C 2 (by decide) q44 dX0_init_122 ?_
      refine J.iconst (v := nI 1) C dX0_init_125 (by decide) ?_
      refine J.iconst (v := nI 0) C dX0_init_126 (by decide) ?_
      refine J.iast C (gk (by decide)) (by show _ < 12; omega) dX0_init_127 ?_
      refine J.aload_n C dX0_init_128 rfl 0 rfl ?_
      refine J.get0 C 2 (by decide) q44 dX0_init_129 ?_
      refine J.iconst (v := nI 2) C dX0_init_132 (by decide) ?_
      refine J.iconst (v := nI 0) C dX0_init_133 (by decide) ?_
      refine J.iast C (gk (by decide)) (by show _ < 12; omega) dX0_init_134 ?_
      refine J.aload_n C dX0_init_135 rfl 0 rfl ?_
      refine J.get0 C 2 (by decide) q44 dX0_init_136 ?_
      refine J.iconst (v := nI 4) C dX0_init_139 (by decide) ?_
      refine J.bipush (v := -2) C dX0_init_140 (by decide) ?_
      refine J.iast C (gk (by decide)) (by show _ < 12; omega) dX0_init_142 ?_
      refine J.aload_n C dX0_init_143 rfl 0 rfl ?_
      refine J.get0 C 3 (by decide) q45 dX0_init_144 ?_
      refine J.iconst (v := nI 0) C dX0_init_147 (by decide) ?_
      refine J.iconst (v := nI 1) C dX0_init_148 (by decide) ?_
      refine J.iast C (gk (by decide)) (by show _ < 12; omega) dX0_init_149 ?_
      have hpr : ∀ k, k < 12 → (if k = 4 then (-2 : Int32) else if k = 2 then nI 0 else if k = 1 then nI 0 else -1) = nI (dgt 4294967296 PP k) := by decide +kernel
      have h3 : Rd 4294967296 12 ((va_up (va_up (va_up (va_up f' 3 (upd (f' 3) 1 (nI 0))) 3 (upd ((va_up f' 3 (upd (f' 3) 1 (nI 0))) 3) 2 (nI 0))) 3 (upd ((va_up (va_up f' 3 (upd (f' 3) 1 (nI 0))) 3 (upd ((va_up f' 3 (upd (f' 3) 1 (nI 0))) 3) 2 (nI 0))) 3) 4 (-2))) 4 (upd ((va_up (va_up (va_up f' 3 (upd (f' 3) 1 (nI 0))) 3 (upd ((va_up f' 3 (upd (f' 3) 1 (nI 0))) 3) 2 (nI 0))) 3 (upd ((va_up (va_up f' 3 (upd (f' 3) 1 (nI 0))) 3 (upd ((va_up f' 3 (upd (f' 3) 1 (nI 0))) 3) 2 (nI 0))) 3) 4 (-2))) 4) 0 (nI 1))) 3) PP := by
        intro k hk
        rw [← hpr k hk, va_up_ne _ _ (by decide), va_up_self, va_up_self, va_up_self]
        have hm := hI.at.1 k hk
        rw [Nat.zero_add] at hm
        by_cases e4 : k = 4
        · subst e4; rw [pk_us, if_pos rfl]
        · rw [pk_un e4, if_neg e4]
          by_cases e2 : k = 2
          · subst e2; rw [pk_us, if_pos rfl]
          · rw [pk_un e2, if_neg e2]
            by_cases e1 : k = 1
            · subst e1; rw [pk_us, if_pos rfl]
            · rw [pk_un e1, if_neg e1]; exact hm
      have h4 : Rd 4294967296 12 ((va_up (va_up (va_up (va_up f' 3 (upd (f' 3) 1 (nI 0))) 3 (upd ((va_up f' 3 (upd (f' 3) 1 (nI 0))) 3) 2 (nI 0))) 3 (upd ((va_up (va_up f' 3 (upd (f' 3) 1 (nI 0))) 3 (upd ((va_up f' 3 (upd (f' 3) 1 (nI 0))) 3) 2 (nI 0))) 3) 4 (-2))) 4 (upd ((va_up (va_up (va_up f' 3 (upd (f' 3) 1 (nI 0))) 3 (upd ((va_up f' 3 (upd (f' 3) 1 (nI 0))) 3) 2 (nI 0))) 3 (upd ((va_up (va_up f' 3 (upd (f' 3) 1 (nI 0))) 3 (upd ((va_up f' 3 (upd (f' 3) 1 (nI 0))) 3) 2 (nI 0))) 3) 4 (-2))) 4) 0 (nI 1))) 4) 1 := by
        rw [va_up_self]
        refine Rd.one okb32 pk_us (fun k hk e0 => ?_)
        rw [pk_un e0, va_up_ne _ _ (by decide), va_up_ne _ _ (by decide), va_up_ne _ _ (by decide), hI.other (by decide)]
        rfl
      have hk : ∀ j, j ≠ 3 → j ≠ 4 → (va_up (va_up (va_up (va_up f' 3 (upd (f' 3) 1 (nI 0))) 3 (upd ((va_up f' 3 (upd (f' 3) 1 (nI 0))) 3) 2 (nI 0))) 3 (upd ((va_up (va_up f' 3 (upd (f' 3) 1 (nI 0))) 3 (upd ((va_up f' 3 (upd (f' 3) 1 (nI 0))) 3) 2 (nI 0))) 3) 4 (-2))) 4 (upd ((va_up (va_up (va_up f' 3 (upd (f' 3) 1 (nI 0))) 3 (upd ((va_up f' 3 (upd (f' 3) 1 (nI 0))) 3) 2 (nI 0))) 3 (upd ((va_up (va_up f' 3 (upd (f' 3) 1 (nI 0))) 3 (upd ((va_up f' 3 (upd (f' 3) 1 (nI 0))) 3) 2 (nI 0))) 3) 4 (-2))) 4) 0 (nI 1))) j = fun _ => 0 := fun j h3 h4 => by rw [va_up_ne _ _ h4, va_up_ne _ _ h3, va_up_ne _ _ h3, va_up_ne _ _ h3, hI.other h3]
      generalize (va_up (va_up (va_up (va_up f' 3 (upd (f' 3) 1 (nI 0))) 3 (upd ((va_up f' 3 (upd (f' 3) 1 (nI 0))) 3) 2 (nI 0))) 3 (upd ((va_up (va_up f' 3 (upd (f' 3) 1 (nI 0))) 3 (upd ((va_up f' 3 (upd (f' 3) 1 (nI 0))) 3) 2 (nI 0))) 3) 4 (-2))) 4 (upd ((va_up (va_up (va_up f' 3 (upd (f' 3) 1 (nI 0))) 3 (upd ((va_up f' 3 (upd (f' 3) 1 (nI 0))) 3) 2 (nI 0))) 3 (upd ((va_up (va_up f' 3 (upd (f' 3) 1 (nI 0))) 3 (upd ((va_up f' 3 (upd (f' 3) 1 (nI 0))) 3) 2 (nI 0))) 3) 4 (-2))) 4) 0 (nI 1))) = f2 at h3 h4 hk ⊢
      refine J.iconst (v := nI 0) C dX0_init_150 (by decide) ?_
      refine J.istore_n (lv' := [(1, .int _), (0, .ref _)]) C dX0_init_151 rfl (by decide) rfl ?_
      refine J.perm (lv' := [(0, .ref _), (1, .int _)]) [1, 0] rfl ?_
      refine J.loop (head := 152) 768 (fun k f' g' => (∀ j, j ≠ 4 → f' j = f2 j) ∧ Rd 4294967296 12 (f' 4) (2 ^ k % PP)) (fun k => [(0, .ref (a 0)), (1, .int (nI k))]) ?_ ?_ 768 0 _ _ rfl ⟨fun _ _ => rfl, by rw [Nat.pow_zero, Nat.mod_eq_of_lt (show 1 < PP by decide)]; exact h4⟩
      · intro f3 g3 hI
        obtain ⟨hk3, h5⟩ := hI
        refine J.iload_n C dX0_init_152 rfl 1 rfl ?_
        refine J.sipush (v := nI 768) C dX0_init_153 (by decide) ?_
        refine J.ncmp_ge (tgt := 181) C dX0_init_156 (by decide) (by omega) (by omega) (fun h => ?_) (fun h => ?_)
        · refine J.vret C dX0_init_181 ⟨rfl, fun r hr k hk' => ?_, ⟨fun k hk' => ?_, by decide⟩, ?_, ?_⟩
          · show f3 1 _ = _; rw [hk3 1 (by decide), hk 1 (by decide) (by decide), dgt_0]; rfl
          · rw [hk3 2 (by decide), hk 2 (by decide) (by decide), dgt_0]; rfl
          · rw [hk3 3 (by decide)]; exact h3
          · rw [show RR * RR = 2 ^ 768 by decide +kernel]; exact h5
        · exact absurd h (by omega)
      · intro k f3 g3 hk hI ih
        obtain ⟨hk3, h5⟩ := hI
        refine J.iload_n C dX0_init_152 rfl 1 rfl ?_
        refine J.sipush (v := nI 768) C dX0_init_153 (by decide) ?_
        refine J.ncmp_ge (tgt := 181) C dX0_init_156 (by decide) (by omega) (by omega) (fun h => ?_) (fun h => ?_)
        · exact absurd h (by omega)
        · have hp3 : Rd 4294967296 12 (f3 3) PP := by rw [hk3 3 (by decide)]; exact h3
          refine J.aload_n C dX0_init_159 rfl 0 rfl ?_
          refine J.aload_n C dX0_init_160 rfl 0 rfl ?_
          refine J.get0 C 3 (by decide) q45 dX0_init_161 ?_
          refine J.aload_n C dX0_init_164 rfl 0 rfl ?_
          refine J.get0 C 3 (by decide) q45 dX0_init_165 ?_
          refine J.aload_n C dX0_init_168 rfl 0 rfl ?_
          refine J.get0 C 3 (by decide) q45 dX0_init_169 ?_
          refine J.callV (rest := []) C (x_sumOf (gk (by decide)) rfl (gk (by decide)) rfl (gk (by decide)) rfl (by decide) hp3 h5 h5 (Nat.mod_lt _ PP_pos) (Nat.mod_lt _ PP_pos)) _ rfl q28 q30 qs0 q18 q31 (by show _ = _ ∧ _ ≠ _ ∧ _ ≠ _ ∧ _ = some 3; decide +kernel) ⟨by decide, by decide⟩ rfl (Nat.le_of_ble_eq_true rfl) dX0_init_172 (fun v f4 g4 hR => ?_)
          obtain ⟨rfl, -, h6⟩ := hR
          refine J.eqs (st' := []) rfl ?_
          have h6 := h6.val (show (2 ^ k % PP + 2 ^ k % PP) % PP = 2 ^ (k + 1) % PP by rw [← Nat.add_mod, Nat.pow_succ, Nat.mul_two])
          refine J.inc (lv' := [(1, .int _), (0, .ref _)]) C dX0_init_175 1 rfl (by decide) rfl ?_
          refine J.goto (tgt := 152) C dX0_init_178 (by decide) ?_
          refine J.perm (lv' := [(0, .ref _), (1, .int _)]) [1, 0] rfl ?_
          exact ih _ _ ⟨fun j hj => by rw [h6.ne hj, hk3 j hj], h6.2⟩
    · exact absurd h (by omega)
  · intro k f' g' hk hI ih
    obtain hI := hI
    refine J.iload_n C dX0_init_102 rfl 1 rfl ?_
    refine J.bipush (v := nI 12) C dX0_init_103 (by decide) ?_
    refine J.ncmp_ge (tgt := 121) C dX0_init_105 (by decide) (by omega) (by omega) (fun h => ?_) (fun h => ?_)
    · exact absurd h (by omega)
    · refine J.aload_n C dX0_init_108 rfl 0 rfl ?_
      refine J.get0 C 2 (by decide) q44 dX0_init_109 ?_
      refine J.iload_n C dX0_init_112 rfl 1 rfl ?_
      refine J.iconst (v := -1) C dX0_init_113 (by decide) ?_
      refine J.fast C hI (gk (by decide)) (Nat.zero_add k).symm (by show _ < 12; omega) rfl dX0_init_114 (fun f' hI => ?_)
      refine J.inc (lv' := [(1, .int _), (0, .ref _)]) C dX0_init_115 1 rfl (by decide) rfl ?_
      refine J.goto (tgt := 102) C dX0_init_118 (by decide) ?_
      refine J.perm (lv' := [(0, .ref _), (1, .int _)]) [1, 0] rfl ?_
      exact ih _ _ hI
set_option maxHeartbeats 4000000 in
set_option maxRecDepth 100000 in
theorem x_init (l : Launch) (D : va_G) (d dL : ClassId) (h0 sz : Nat) : Met l yX0_init (ws_ yX0_init cX0_init 2 none) ({ frames := 2, cells := 12, slots := 182, locals := 49 }) (gStart D d dL 0 h0 sz) (gNew D d dL 0 h0 sz (XI (fun _ => 0) 0)) 12 182 (va_A [(h0, .inr (0, gNul))] sz) := by
  refine Met.ofW (cc := cX0_init) (maxL := 2) (ret := none) (by decide) rfl ?_
  intro p e s m args below meth c s₁ B hml hv
  obtain ⟨rfl, hsz, hP, hK, hD0⟩ := hv
  have hx := B.exec
  have hb := B.bytes
  have hr := B.returns
  have hts := atoms_spec (ws := ws_ yX0_init cX0_init 2 none) B.pre
  have hts : ∀ w ∈ lw_all, w.before _ s = true := fun w h => hts w (List.mem_cons_of_mem _ h)
  have hown : s.vm.findClass RX0 = some m.cls := findClass_of_methodNamed B.named
  have hlocks := B.notSynchronized
  have hin : meth.name = "<init>" := (name_of_methodNamed B.named B.method).1
  subst hsz
  have hD := hD0.self (sz := s.heap.size)
  unfold gNew
  generalize hAe : va_A [(h0, .inr (0, gNul))] s.heap.size = A at hD ⊢
  have hA : ∀ q : Nat, s.heap.size ≤ q → A q := fun q h => by rw [← hAe]; exact Or.inr h
  have hS : va_S A s.heap s.heap [] := va_S.rf
  have hl := lv_entry ([.ref h0]) (n := 2) (Nat.le_of_ble_eq_true rfl)
  rw [lg_entry_eq]
  generalize (lg_sl ([.ref h0]) ++ List.replicate (2 - (lg_sl ([.ref h0])).length) Slot.unset).toArray = ls at hl ⊢
  have hl : lv_has ls 2 [(0, .ref h0)] := hl
  have hP : va_P D vwCl [(h0, .inr (0, [.null, .null, .null, .null, .null, .null, .null, .null, .null, .null, .null, .null]))] s.heap := hP
  have hD : va_D A [(h0, .inr (0, [.null, .null, .null, .null, .null, .null, .null, .null, .null, .null, .null, .null]))] := hD
  refine lv_aload_n hx hb dX0_init_0 rfl (lv_at hl 0 rfl) ?_
  refine W.objInit hx hb hown (hts _ q25) (hts _ q26) (hts _ q27) rfl (by rw [hml]; exact hl.1) rfl dX0_init_1 (Nat.le_of_ble_eq_true rfl) (Nat.le_of_ble_eq_true rfl) ?_
  refine W.eq (g2 := F0 m 4 ls []) rfl ?_
  refine lv_aload_n hx hb dX0_init_4 rfl (lv_at hl 0 rfl) ?_
  refine lv_bipush (v := nI 48) hx hb dX0_init_5 (by decide) ?_
  refine va_newa (atype := .int) (ty := .int) (a0 := (48, .inl (fun _ => 0))) hx hb (hts _ q79) rfl hK hP hD hS hA (fun _ => rfl) (by decide) (N' := 48) (by decide) (by decide) (Nat.le_of_ble_eq_true rfl) (Nat.le_of_ble_eq_true rfl) dX0_init_7 (fun q1 cA H hK1 hP hD hS => ?_)
  obtain rfl := ka_eq hK1
  have hP : va_P D vwCl [(h0, .inr (0, [.null, .null, .null, .null, .null, .null, .null, .null, .null, .null, .null, .null])), (q1, .inl (d, (48, .inl (fun _ => 0))))] H := hP
  have hD : va_D A [(h0, .inr (0, [.null, .null, .null, .null, .null, .null, .null, .null, .null, .null, .null, .null])), (q1, .inl (d, (48, .inl (fun _ => 0))))] := hD
  refine W.widen (k := 1) (n := 48) (Nat.le_of_ble_eq_true rfl) (Nat.le_of_ble_eq_true rfl) ?_
  refine va_putF (ci := 0) (v := .ref q1) (ty := .array .int) (C := RX0) (T := TX0) (N := 12) hx hb hts in_X0 tyX0 tyX0_ok nmX0 hown hK hP hD hS 0 rfl rfl 0 (by decide) (hts _ q42) (fun _ h9 => h9) rfl hin rfl (by decide +kernel) rfl rfl (Nat.le_of_ble_eq_true rfl) dX0_init_9 (fun H locs hP hD hS => ?_)
  have hP : va_P D vwCl [(h0, .inr (0, [.ref q1, .null, .null, .null, .null, .null, .null, .null, .null, .null, .null, .null])), (q1, .inl (d, (48, .inl (fun _ => 0))))] H := hP
  have hD : va_D A [(h0, .inr (0, [.ref q1, .null, .null, .null, .null, .null, .null, .null, .null, .null, .null, .null])), (q1, .inl (d, (48, .inl (fun _ => 0))))] := hD
  refine lv_aload_n hx hb dX0_init_12 rfl (lv_at hl 0 rfl) ?_
  refine lv_bipush (v := nI 12) hx hb dX0_init_13 (by decide) ?_
  refine va_newa (atype := .int) (ty := .int) (a0 := (12, .inl (fun _ => 0))) hx hb (hts _ q79) rfl hK hP hD hS hA (fun _ => rfl) (by decide) (N' := 12) (by decide) (by decide) (Nat.le_of_ble_eq_true rfl) (Nat.le_of_ble_eq_true rfl) dX0_init_15 (fun q2 cA H hK1 hP hD hS => ?_)
  obtain rfl := ka_eq hK1
  have hP : va_P D vwCl [(h0, .inr (0, [.ref q1, .null, .null, .null, .null, .null, .null, .null, .null, .null, .null, .null])), (q1, .inl (d, (48, .inl (fun _ => 0)))), (q2, .inl (d, (12, .inl (fun _ => 0))))] H := hP
  have hD : va_D A [(h0, .inr (0, [.ref q1, .null, .null, .null, .null, .null, .null, .null, .null, .null, .null, .null])), (q1, .inl (d, (48, .inl (fun _ => 0)))), (q2, .inl (d, (12, .inl (fun _ => 0))))] := hD
  refine W.widen (k := 2) (n := 60) (Nat.le_of_ble_eq_true rfl) (Nat.le_of_ble_eq_true rfl) ?_
  refine va_putF (ci := 0) (v := .ref q2) (ty := .array .int) (C := RX0) (T := TX0) (N := 12) hx hb hts in_X0 tyX0 tyX0_ok nmX0 hown hK hP hD hS 0 rfl rfl 1 (by decide) (hts _ q43) (fun _ h9 => h9) rfl hin rfl (by decide +kernel) rfl rfl (Nat.le_of_ble_eq_true rfl) dX0_init_17 (fun H locs hP hD hS => ?_)
  have hP : va_P D vwCl [(h0, .inr (0, [.ref q1, .ref q2, .null, .null, .null, .null, .null, .null, .null, .null, .null, .null])), (q1, .inl (d, (48, .inl (fun _ => 0)))), (q2, .inl (d, (12, .inl (fun _ => 0))))] H := hP
  have hD : va_D A [(h0, .inr (0, [.ref q1, .ref q2, .null, .null, .null, .null, .null, .null, .null, .null, .null, .null])), (q1, .inl (d, (48, .inl (fun _ => 0)))), (q2, .inl (d, (12, .inl (fun _ => 0))))] := hD
  refine lv_aload_n hx hb dX0_init_20 rfl (lv_at hl 0 rfl) ?_
  refine lv_bipush (v := nI 12) hx hb dX0_init_21 (by decide) ?_
  refine va_newa (atype := .int) (ty := .int) (a0 := (12, .inl (fun _ => 0))) hx hb (hts _ q79) rfl hK hP hD hS hA (fun _ => rfl) (by decide) (N' := 12) (by decide) (by decide) (Nat.le_of_ble_eq_true rfl) (Nat.le_of_ble_eq_true rfl) dX0_init_23 (fun q3 cA H hK1 hP hD hS => ?_)
  obtain rfl := ka_eq hK1
  have hP : va_P D vwCl [(h0, .inr (0, [.ref q1, .ref q2, .null, .null, .null, .null, .null, .null, .null, .null, .null, .null])), (q1, .inl (d, (48, .inl (fun _ => 0)))), (q2, .inl (d, (12, .inl (fun _ => 0)))), (q3, .inl (d, (12, .inl (fun _ => 0))))] H := hP
  have hD : va_D A [(h0, .inr (0, [.ref q1, .ref q2, .null, .null, .null, .null, .null, .null, .null, .null, .null, .null])), (q1, .inl (d, (48, .inl (fun _ => 0)))), (q2, .inl (d, (12, .inl (fun _ => 0)))), (q3, .inl (d, (12, .inl (fun _ => 0))))] := hD
  refine W.widen (k := 3) (n := 72) (Nat.le_of_ble_eq_true rfl) (Nat.le_of_ble_eq_true rfl) ?_
  refine va_putF (ci := 0) (v := .ref q3) (ty := .array .int) (C := RX0) (T := TX0) (N := 12) hx hb hts in_X0 tyX0 tyX0_ok nmX0 hown hK hP hD hS 0 rfl rfl 2 (by decide) (hts _ q44) (fun _ h9 => h9) rfl hin rfl (by decide +kernel) rfl rfl (Nat.le_of_ble_eq_true rfl) dX0_init_25 (fun H locs hP hD hS => ?_)
  have hP : va_P D vwCl [(h0, .inr (0, [.ref q1, .ref q2, .ref q3, .null, .null, .null, .null, .null, .null, .null, .null, .null])), (q1, .inl (d, (48, .inl (fun _ => 0)))), (q2, .inl (d, (12, .inl (fun _ => 0)))), (q3, .inl (d, (12, .inl (fun _ => 0))))] H := hP
  have hD : va_D A [(h0, .inr (0, [.ref q1, .ref q2, .ref q3, .null, .null, .null, .null, .null, .null, .null, .null, .null])), (q1, .inl (d, (48, .inl (fun _ => 0)))), (q2, .inl (d, (12, .inl (fun _ => 0)))), (q3, .inl (d, (12, .inl (fun _ => 0))))] := hD
  refine lv_aload_n hx hb dX0_init_28 rfl (lv_at hl 0 rfl) ?_
  refine lv_bipush (v := nI 12) hx hb dX0_init_29 (by decide) ?_
  refine va_newa (atype := .int) (ty := .int) (a0 := (12, .inl (fun _ => 0))) hx hb (hts _ q79) rfl hK hP hD hS hA (fun _ => rfl) (by decide) (N' := 12) (by decide) (by decide) (Nat.le_of_ble_eq_true rfl) (Nat.le_of_ble_eq_true rfl) dX0_init_31 (fun q4 cA H hK1 hP hD hS => ?_)
  obtain rfl := ka_eq hK1
  have hP : va_P D vwCl [(h0, .inr (0, [.ref q1, .ref q2, .ref q3, .null, .null, .null, .null, .null, .null, .null, .null, .null])), (q1, .inl (d, (48, .inl (fun _ => 0)))), (q2, .inl (d, (12, .inl (fun _ => 0)))), (q3, .inl (d, (12, .inl (fun _ => 0)))), (q4, .inl (d, (12, .inl (fun _ => 0))))] H := hP
  have hD : va_D A [(h0, .inr (0, [.ref q1, .ref q2, .ref q3, .null, .null, .null, .null, .null, .null, .null, .null, .null])), (q1, .inl (d, (48, .inl (fun _ => 0)))), (q2, .inl (d, (12, .inl (fun _ => 0)))), (q3, .inl (d, (12, .inl (fun _ => 0)))), (q4, .inl (d, (12, .inl (fun _ => 0))))] := hD
  refine W.widen (k := 4) (n := 84) (Nat.le_of_ble_eq_true rfl) (Nat.le_of_ble_eq_true rfl) ?_
  refine va_putF (ci := 0) (v := .ref q4) (ty := .array .int) (C := RX0) (T := TX0) (N := 12) hx hb hts in_X0 tyX0 tyX0_ok nmX0 hown hK hP hD hS 0 rfl rfl 3 (by decide) (hts _ q45) (fun _ h9 => h9) rfl hin rfl (by decide +kernel) rfl rfl (Nat.le_of_ble_eq_true rfl) dX0_init_33 (fun H locs hP hD hS => ?_)
  have hP : va_P D vwCl [(h0, .inr (0, [.ref q1, .ref q2, .ref q3, .ref q4, .null, .null, .null, .null, .null, .null, .null, .null])), (q1, .inl (d, (48, .inl (fun _ => 0)))), (q2, .inl (d, (12, .inl (fun _ => 0)))), (q3, .inl (d, (12, .inl (fun _ => 0)))), (q4, .inl (d, (12, .inl (fun _ => 0))))] H := hP
  have hD : va_D A [(h0, .inr (0, [.ref q1, .ref q2, .ref q3, .ref q4, .null, .null, .null, .null, .null, .null, .null, .null])), (q1, .inl (d, (48, .inl (fun _ => 0)))), (q2, .inl (d, (12, .inl (fun _ => 0)))), (q3, .inl (d, (12, .inl (fun _ => 0)))), (q4, .inl (d, (12, .inl (fun _ => 0))))] := hD
  refine lv_aload_n hx hb dX0_init_36 rfl (lv_at hl 0 rfl) ?_
  refine lv_bipush (v := nI 14) hx hb dX0_init_37 (by decide) ?_
  refine va_newa (atype := .long) (ty := .long) (a0 := (14, .inr (.inl (fun _ => 0)))) hx hb (hts _ q80) rfl hK hP hD hS hA (fun _ => rfl) (by decide) (N' := 14) (by decide) (by decide) (Nat.le_of_ble_eq_true rfl) (Nat.le_of_ble_eq_true rfl) dX0_init_39 (fun q5 cA H hK1 hP hD hS => ?_)
  obtain rfl := ka_eqL hK1
  have hP : va_P D vwCl [(h0, .inr (0, [.ref q1, .ref q2, .ref q3, .ref q4, .null, .null, .null, .null, .null, .null, .null, .null])), (q1, .inl (d, (48, .inl (fun _ => 0)))), (q2, .inl (d, (12, .inl (fun _ => 0)))), (q3, .inl (d, (12, .inl (fun _ => 0)))), (q4, .inl (d, (12, .inl (fun _ => 0)))), (q5, .inl (dL, (14, .inr (.inl (fun _ => 0)))))] H := hP
  have hD : va_D A [(h0, .inr (0, [.ref q1, .ref q2, .ref q3, .ref q4, .null, .null, .null, .null, .null, .null, .null, .null])), (q1, .inl (d, (48, .inl (fun _ => 0)))), (q2, .inl (d, (12, .inl (fun _ => 0)))), (q3, .inl (d, (12, .inl (fun _ => 0)))), (q4, .inl (d, (12, .inl (fun _ => 0)))), (q5, .inl (dL, (14, .inr (.inl (fun _ => 0)))))] := hD
  refine W.widen (k := 5) (n := 98) (Nat.le_of_ble_eq_true rfl) (Nat.le_of_ble_eq_true rfl) ?_
  refine va_putF (ci := 0) (v := .ref q5) (ty := .array .long) (C := RX0) (T := TX0) (N := 12) hx hb hts in_X0 tyX0 tyX0_ok nmX0 hown hK hP hD hS 0 rfl rfl 4 (by decide) (hts _ q46) (fun _ h9 => h9) rfl hin rfl (by decide +kernel) rfl rfl (Nat.le_of_ble_eq_true rfl) dX0_init_41 (fun H locs hP hD hS => ?_)
  have hP : va_P D vwCl [(h0, .inr (0, [.ref q1, .ref q2, .ref q3, .ref q4, .ref q5, .null, .null, .null, .null, .null, .null, .null])), (q1, .inl (d, (48, .inl (fun _ => 0)))), (q2, .inl (d, (12, .inl (fun _ => 0)))), (q3, .inl (d, (12, .inl (fun _ => 0)))), (q4, .inl (d, (12, .inl (fun _ => 0)))), (q5, .inl (dL, (14, .inr (.inl (fun _ => 0)))))] H := hP
  have hD : va_D A [(h0, .inr (0, [.ref q1, .ref q2, .ref q3, .ref q4, .ref q5, .null, .null, .null, .null, .null, .null, .null])), (q1, .inl (d, (48, .inl (fun _ => 0)))), (q2, .inl (d, (12, .inl (fun _ => 0)))), (q3, .inl (d, (12, .inl (fun _ => 0)))), (q4, .inl (d, (12, .inl (fun _ => 0)))), (q5, .inl (dL, (14, .inr (.inl (fun _ => 0)))))] := hD
  refine lv_aload_n hx hb dX0_init_44 rfl (lv_at hl 0 rfl) ?_
  refine lv_bipush (v := nI 12) hx hb dX0_init_45 (by decide) ?_
  refine va_newa (atype := .int) (ty := .int) (a0 := (12, .inl (fun _ => 0))) hx hb (hts _ q79) rfl hK hP hD hS hA (fun _ => rfl) (by decide) (N' := 12) (by decide) (by decide) (Nat.le_of_ble_eq_true rfl) (Nat.le_of_ble_eq_true rfl) dX0_init_47 (fun q6 cA H hK1 hP hD hS => ?_)
  obtain rfl := ka_eq hK1
  have hP : va_P D vwCl [(h0, .inr (0, [.ref q1, .ref q2, .ref q3, .ref q4, .ref q5, .null, .null, .null, .null, .null, .null, .null])), (q1, .inl (d, (48, .inl (fun _ => 0)))), (q2, .inl (d, (12, .inl (fun _ => 0)))), (q3, .inl (d, (12, .inl (fun _ => 0)))), (q4, .inl (d, (12, .inl (fun _ => 0)))), (q5, .inl (dL, (14, .inr (.inl (fun _ => 0))))), (q6, .inl (d, (12, .inl (fun _ => 0))))] H := hP
  have hD : va_D A [(h0, .inr (0, [.ref q1, .ref q2, .ref q3, .ref q4, .ref q5, .null, .null, .null, .null, .null, .null, .null])), (q1, .inl (d, (48, .inl (fun _ => 0)))), (q2, .inl (d, (12, .inl (fun _ => 0)))), (q3, .inl (d, (12, .inl (fun _ => 0)))), (q4, .inl (d, (12, .inl (fun _ => 0)))), (q5, .inl (dL, (14, .inr (.inl (fun _ => 0))))), (q6, .inl (d, (12, .inl (fun _ => 0))))] := hD
  refine W.widen (k := 6) (n := 110) (Nat.le_of_ble_eq_true rfl) (Nat.le_of_ble_eq_true rfl) ?_
  refine va_putF (ci := 0) (v := .ref q6) (ty := .array .int) (C := RX0) (T := TX0) (N := 12) hx hb hts in_X0 tyX0 tyX0_ok nmX0 hown hK hP hD hS 0 rfl rfl 5 (by decide) (hts _ q47) (fun _ h9 => h9) rfl hin rfl (by decide +kernel) rfl rfl (Nat.le_of_ble_eq_true rfl) dX0_init_49 (fun H locs hP hD hS => ?_)
  have hP : va_P D vwCl [(h0, .inr (0, [.ref q1, .ref q2, .ref q3, .ref q4, .ref q5, .ref q6, .null, .null, .null, .null, .null, .null])), (q1, .inl (d, (48, .inl (fun _ => 0)))), (q2, .inl (d, (12, .inl (fun _ => 0)))), (q3, .inl (d, (12, .inl (fun _ => 0)))), (q4, .inl (d, (12, .inl (fun _ => 0)))), (q5, .inl (dL, (14, .inr (.inl (fun _ => 0))))), (q6, .inl (d, (12, .inl (fun _ => 0))))] H := hP
  have hD : va_D A [(h0, .inr (0, [.ref q1, .ref q2, .ref q3, .ref q4, .ref q5, .ref q6, .null, .null, .null, .null, .null, .null])), (q1, .inl (d, (48, .inl (fun _ => 0)))), (q2, .inl (d, (12, .inl (fun _ => 0)))), (q3, .inl (d, (12, .inl (fun _ => 0)))), (q4, .inl (d, (12, .inl (fun _ => 0)))), (q5, .inl (dL, (14, .inr (.inl (fun _ => 0))))), (q6, .inl (d, (12, .inl (fun _ => 0))))] := hD
  refine lv_aload_n hx hb dX0_init_52 rfl (lv_at hl 0 rfl) ?_
  refine lv_bipush (v := nI 12) hx hb dX0_init_53 (by decide) ?_
  refine va_newa (atype := .int) (ty := .int) (a0 := (12, .inl (fun _ => 0))) hx hb (hts _ q79) rfl hK hP hD hS hA (fun _ => rfl) (by decide) (N' := 12) (by decide) (by decide) (Nat.le_of_ble_eq_true rfl) (Nat.le_of_ble_eq_true rfl) dX0_init_55 (fun q7 cA H hK1 hP hD hS => ?_)
  obtain rfl := ka_eq hK1
  have hP : va_P D vwCl [(h0, .inr (0, [.ref q1, .ref q2, .ref q3, .ref q4, .ref q5, .ref q6, .null, .null, .null, .null, .null, .null])), (q1, .inl (d, (48, .inl (fun _ => 0)))), (q2, .inl (d, (12, .inl (fun _ => 0)))), (q3, .inl (d, (12, .inl (fun _ => 0)))), (q4, .inl (d, (12, .inl (fun _ => 0)))), (q5, .inl (dL, (14, .inr (.inl (fun _ => 0))))), (q6, .inl (d, (12, .inl (fun _ => 0)))), (q7, .inl (d, (12, .inl (fun _ => 0))))] H := hP
  have hD : va_D A [(h0, .inr (0, [.ref q1, .ref q2, .ref q3, .ref q4, .ref q5, .ref q6, .null, .null, .null, .null, .null, .null])), (q1, .inl (d, (48, .inl (fun _ => 0)))), (q2, .inl (d, (12, .inl (fun _ => 0)))), (q3, .inl (d, (12, .inl (fun _ => 0)))), (q4, .inl (d, (12, .inl (fun _ => 0)))), (q5, .inl (dL, (14, .inr (.inl (fun _ => 0))))), (q6, .inl (d, (12, .inl (fun _ => 0)))), (q7, .inl (d, (12, .inl (fun _ => 0))))] := hD
  refine W.widen (k := 7) (n := 122) (Nat.le_of_ble_eq_true rfl) (Nat.le_of_ble_eq_true rfl) ?_
  refine va_putF (ci := 0) (v := .ref q7) (ty := .array .int) (C := RX0) (T := TX0) (N := 12) hx hb hts in_X0 tyX0 tyX0_ok nmX0 hown hK hP hD hS 0 rfl rfl 6 (by decide) (hts _ q48) (fun _ h9 => h9) rfl hin rfl (by decide +kernel) rfl rfl (Nat.le_of_ble_eq_true rfl) dX0_init_57 (fun H locs hP hD hS => ?_)
  have hP : va_P D vwCl [(h0, .inr (0, [.ref q1, .ref q2, .ref q3, .ref q4, .ref q5, .ref q6, .ref q7, .null, .null, .null, .null, .null])), (q1, .inl (d, (48, .inl (fun _ => 0)))), (q2, .inl (d, (12, .inl (fun _ => 0)))), (q3, .inl (d, (12, .inl (fun _ => 0)))), (q4, .inl (d, (12, .inl (fun _ => 0)))), (q5, .inl (dL, (14, .inr (.inl (fun _ => 0))))), (q6, .inl (d, (12, .inl (fun _ => 0)))), (q7, .inl (d, (12, .inl (fun _ => 0))))] H := hP
  have hD : va_D A [(h0, .inr (0, [.ref q1, .ref q2, .ref q3, .ref q4, .ref q5, .ref q6, .ref q7, .null, .null, .null, .null, .null])), (q1, .inl (d, (48, .inl (fun _ => 0)))), (q2, .inl (d, (12, .inl (fun _ => 0)))), (q3, .inl (d, (12, .inl (fun _ => 0)))), (q4, .inl (d, (12, .inl (fun _ => 0)))), (q5, .inl (dL, (14, .inr (.inl (fun _ => 0))))), (q6, .inl (d, (12, .inl (fun _ => 0)))), (q7, .inl (d, (12, .inl (fun _ => 0))))] := hD
  refine lv_aload_n hx hb dX0_init_60 rfl (lv_at hl 0 rfl) ?_
  refine lv_bipush (v := nI 12) hx hb dX0_init_61 (by decide) ?_
  refine va_newa (atype := .int) (ty := .int) (a0 := (12, .inl (fun _ => 0))) hx hb (hts _ q79) rfl hK hP hD hS hA (fun _ => rfl) (by decide) (N' := 12) (by decide) (by decide) (Nat.le_of_ble_eq_true rfl) (Nat.le_of_ble_eq_true rfl) dX0_init_63 (fun q8 cA H hK1 hP hD hS => ?_)
  obtain rfl := ka_eq hK1
  have hP : va_P D vwCl [(h0, .inr (0, [.ref q1, .ref q2, .ref q3, .ref q4, .ref q5, .ref q6, .ref q7, .null, .null, .null, .null, .null])), (q1, .inl (d, (48, .inl (fun _ => 0)))), (q2, .inl (d, (12, .inl (fun _ => 0)))), (q3, .inl (d, (12, .inl (fun _ => 0)))), (q4, .inl (d, (12, .inl (fun _ => 0)))), (q5, .inl (dL, (14, .inr (.inl (fun _ => 0))))), (q6, .inl (d, (12, .inl (fun _ => 0)))), (q7, .inl (d, (12, .inl (fun _ => 0)))), (q8, .inl (d, (12, .inl (fun _ => 0))))] H := hP
  have hD : va_D A [(h0, .inr (0, [.ref q1, .ref q2, .ref q3, .ref q4, .ref q5, .ref q6, .ref q7, .null, .null, .null, .null, .null])), (q1, .inl (d, (48, .inl (fun _ => 0)))), (q2, .inl (d, (12, .inl (fun _ => 0)))), (q3, .inl (d, (12, .inl (fun _ => 0)))), (q4, .inl (d, (12, .inl (fun _ => 0)))), (q5, .inl (dL, (14, .inr (.inl (fun _ => 0))))), (q6, .inl (d, (12, .inl (fun _ => 0)))), (q7, .inl (d, (12, .inl (fun _ => 0)))), (q8, .inl (d, (12, .inl (fun _ => 0))))] := hD
  refine W.widen (k := 8) (n := 134) (Nat.le_of_ble_eq_true rfl) (Nat.le_of_ble_eq_true rfl) ?_
  refine va_putF (ci := 0) (v := .ref q8) (ty := .array .int) (C := RX0) (T := TX0) (N := 12) hx hb hts in_X0 tyX0 tyX0_ok nmX0 hown hK hP hD hS 0 rfl rfl 7 (by decide) (hts _ q49) (fun _ h9 => h9) rfl hin rfl (by decide +kernel) rfl rfl (Nat.le_of_ble_eq_true rfl) dX0_init_65 (fun H locs hP hD hS => ?_)
  have hP : va_P D vwCl [(h0, .inr (0, [.ref q1, .ref q2, .ref q3, .ref q4, .ref q5, .ref q6, .ref q7, .ref q8, .null, .null, .null, .null])), (q1, .inl (d, (48, .inl (fun _ => 0)))), (q2, .inl (d, (12, .inl (fun _ => 0)))), (q3, .inl (d, (12, .inl (fun _ => 0)))), (q4, .inl (d, (12, .inl (fun _ => 0)))), (q5, .inl (dL, (14, .inr (.inl (fun _ => 0))))), (q6, .inl (d, (12, .inl (fun _ => 0)))), (q7, .inl (d, (12, .inl (fun _ => 0)))), (q8, .inl (d, (12, .inl (fun _ => 0))))] H := hP
  have hD : va_D A [(h0, .inr (0, [.ref q1, .ref q2, .ref q3, .ref q4, .ref q5, .ref q6, .ref q7, .ref q8, .null, .null, .null, .null])), (q1, .inl (d, (48, .inl (fun _ => 0)))), (q2, .inl (d, (12, .inl (fun _ => 0)))), (q3, .inl (d, (12, .inl (fun _ => 0)))), (q4, .inl (d, (12, .inl (fun _ => 0)))), (q5, .inl (dL, (14, .inr (.inl (fun _ => 0))))), (q6, .inl (d, (12, .inl (fun _ => 0)))), (q7, .inl (d, (12, .inl (fun _ => 0)))), (q8, .inl (d, (12, .inl (fun _ => 0))))] := hD
  refine lv_aload_n hx hb dX0_init_68 rfl (lv_at hl 0 rfl) ?_
  refine lv_bipush (v := nI 12) hx hb dX0_init_69 (by decide) ?_
  refine va_newa (atype := .int) (ty := .int) (a0 := (12, .inl (fun _ => 0))) hx hb (hts _ q79) rfl hK hP hD hS hA (fun _ => rfl) (by decide) (N' := 12) (by decide) (by decide) (Nat.le_of_ble_eq_true rfl) (Nat.le_of_ble_eq_true rfl) dX0_init_71 (fun q9 cA H hK1 hP hD hS => ?_)
  obtain rfl := ka_eq hK1
  have hP : va_P D vwCl [(h0, .inr (0, [.ref q1, .ref q2, .ref q3, .ref q4, .ref q5, .ref q6, .ref q7, .ref q8, .null, .null, .null, .null])), (q1, .inl (d, (48, .inl (fun _ => 0)))), (q2, .inl (d, (12, .inl (fun _ => 0)))), (q3, .inl (d, (12, .inl (fun _ => 0)))), (q4, .inl (d, (12, .inl (fun _ => 0)))), (q5, .inl (dL, (14, .inr (.inl (fun _ => 0))))), (q6, .inl (d, (12, .inl (fun _ => 0)))), (q7, .inl (d, (12, .inl (fun _ => 0)))), (q8, .inl (d, (12, .inl (fun _ => 0)))), (q9, .inl (d, (12, .inl (fun _ => 0))))] H := hP
  have hD : va_D A [(h0, .inr (0, [.ref q1, .ref q2, .ref q3, .ref q4, .ref q5, .ref q6, .ref q7, .ref q8, .null, .null, .null, .null])), (q1, .inl (d, (48, .inl (fun _ => 0)))), (q2, .inl (d, (12, .inl (fun _ => 0)))), (q3, .inl (d, (12, .inl (fun _ => 0)))), (q4, .inl (d, (12, .inl (fun _ => 0)))), (q5, .inl (dL, (14, .inr (.inl (fun _ => 0))))), (q6, .inl (d, (12, .inl (fun _ => 0)))), (q7, .inl (d, (12, .inl (fun _ => 0)))), (q8, .inl (d, (12, .inl (fun _ => 0)))), (q9, .inl (d, (12, .inl (fun _ => 0))))] := hD
  refine W.widen (k := 9) (n := 146) (Nat.le_of_ble_eq_true rfl) (Nat.le_of_ble_eq_true rfl) ?_
  refine va_putF (ci := 0) (v := .ref q9) (ty := .array .int) (C := RX0) (T := TX0) (N := 12) hx hb hts in_X0 tyX0 tyX0_ok nmX0 hown hK hP hD hS 0 rfl rfl 8 (by decide) (hts _ q50) (fun _ h9 => h9) rfl hin rfl (by decide +kernel) rfl rfl (Nat.le_of_ble_eq_true rfl) dX0_init_73 (fun H locs hP hD hS => ?_)
  have hP : va_P D vwCl [(h0, .inr (0, [.ref q1, .ref q2, .ref q3, .ref q4, .ref q5, .ref q6, .ref q7, .ref q8, .ref q9, .null, .null, .null])), (q1, .inl (d, (48, .inl (fun _ => 0)))), (q2, .inl (d, (12, .inl (fun _ => 0)))), (q3, .inl (d, (12, .inl (fun _ => 0)))), (q4, .inl (d, (12, .inl (fun _ => 0)))), (q5, .inl (dL, (14, .inr (.inl (fun _ => 0))))), (q6, .inl (d, (12, .inl (fun _ => 0)))), (q7, .inl (d, (12, .inl (fun _ => 0)))), (q8, .inl (d, (12, .inl (fun _ => 0)))), (q9, .inl (d, (12, .inl (fun _ => 0))))] H := hP
  have hD : va_D A [(h0, .inr (0, [.ref q1, .ref q2, .ref q3, .ref q4, .ref q5, .ref q6, .ref q7, .ref q8, .ref q9, .null, .null, .null])), (q1, .inl (d, (48, .inl (fun _ => 0)))), (q2, .inl (d, (12, .inl (fun _ => 0)))), (q3, .inl (d, (12, .inl (fun _ => 0)))), (q4, .inl (d, (12, .inl (fun _ => 0)))), (q5, .inl (dL, (14, .inr (.inl (fun _ => 0))))), (q6, .inl (d, (12, .inl (fun _ => 0)))), (q7, .inl (d, (12, .inl (fun _ => 0)))), (q8, .inl (d, (12, .inl (fun _ => 0)))), (q9, .inl (d, (12, .inl (fun _ => 0))))] := hD
  refine lv_aload_n hx hb dX0_init_76 rfl (lv_at hl 0 rfl) ?_
  refine lv_bipush (v := nI 12) hx hb dX0_init_77 (by decide) ?_
  refine va_newa (atype := .int) (ty := .int) (a0 := (12, .inl (fun _ => 0))) hx hb (hts _ q79) rfl hK hP hD hS hA (fun _ => rfl) (by decide) (N' := 12) (by decide) (by decide) (Nat.le_of_ble_eq_true rfl) (Nat.le_of_ble_eq_true rfl) dX0_init_79 (fun q10 cA H hK1 hP hD hS => ?_)
  obtain rfl := ka_eq hK1
  have hP : va_P D vwCl [(h0, .inr (0, [.ref q1, .ref q2, .ref q3, .ref q4, .ref q5, .ref q6, .ref q7, .ref q8, .ref q9, .null, .null, .null])), (q1, .inl (d, (48, .inl (fun _ => 0)))), (q2, .inl (d, (12, .inl (fun _ => 0)))), (q3, .inl (d, (12, .inl (fun _ => 0)))), (q4, .inl (d, (12, .inl (fun _ => 0)))), (q5, .inl (dL, (14, .inr (.inl (fun _ => 0))))), (q6, .inl (d, (12, .inl (fun _ => 0)))), (q7, .inl (d, (12, .inl (fun _ => 0)))), (q8, .inl (d, (12, .inl (fun _ => 0)))), (q9, .inl (d, (12, .inl (fun _ => 0)))), (q10, .inl (d, (12, .inl (fun _ => 0))))] H := hP
  have hD : va_D A [(h0, .inr (0, [.ref q1, .ref q2, .ref q3, .ref q4, .ref q5, .ref q6, .ref q7, .ref q8, .ref q9, .null, .null, .null])), (q1, .inl (d, (48, .inl (fun _ => 0)))), (q2, .inl (d, (12, .inl (fun _ => 0)))), (q3, .inl (d, (12, .inl (fun _ => 0)))), (q4, .inl (d, (12, .inl (fun _ => 0)))), (q5, .inl (dL, (14, .inr (.inl (fun _ => 0))))), (q6, .inl (d, (12, .inl (fun _ => 0)))), (q7, .inl (d, (12, .inl (fun _ => 0)))), (q8, .inl (d, (12, .inl (fun _ => 0)))), (q9, .inl (d, (12, .inl (fun _ => 0)))), (q10, .inl (d, (12, .inl (fun _ => 0))))] := hD
  refine W.widen (k := 10) (n := 158) (Nat.le_of_ble_eq_true rfl) (Nat.le_of_ble_eq_true rfl) ?_
  refine va_putF (ci := 0) (v := .ref q10) (ty := .array .int) (C := RX0) (T := TX0) (N := 12) hx hb hts in_X0 tyX0 tyX0_ok nmX0 hown hK hP hD hS 0 rfl rfl 9 (by decide) (hts _ q51) (fun _ h9 => h9) rfl hin rfl (by decide +kernel) rfl rfl (Nat.le_of_ble_eq_true rfl) dX0_init_81 (fun H locs hP hD hS => ?_)
  have hP : va_P D vwCl [(h0, .inr (0, [.ref q1, .ref q2, .ref q3, .ref q4, .ref q5, .ref q6, .ref q7, .ref q8, .ref q9, .ref q10, .null, .null])), (q1, .inl (d, (48, .inl (fun _ => 0)))), (q2, .inl (d, (12, .inl (fun _ => 0)))), (q3, .inl (d, (12, .inl (fun _ => 0)))), (q4, .inl (d, (12, .inl (fun _ => 0)))), (q5, .inl (dL, (14, .inr (.inl (fun _ => 0))))), (q6, .inl (d, (12, .inl (fun _ => 0)))), (q7, .inl (d, (12, .inl (fun _ => 0)))), (q8, .inl (d, (12, .inl (fun _ => 0)))), (q9, .inl (d, (12, .inl (fun _ => 0)))), (q10, .inl (d, (12, .inl (fun _ => 0))))] H := hP
  have hD : va_D A [(h0, .inr (0, [.ref q1, .ref q2, .ref q3, .ref q4, .ref q5, .ref q6, .ref q7, .ref q8, .ref q9, .ref q10, .null, .null])), (q1, .inl (d, (48, .inl (fun _ => 0)))), (q2, .inl (d, (12, .inl (fun _ => 0)))), (q3, .inl (d, (12, .inl (fun _ => 0)))), (q4, .inl (d, (12, .inl (fun _ => 0)))), (q5, .inl (dL, (14, .inr (.inl (fun _ => 0))))), (q6, .inl (d, (12, .inl (fun _ => 0)))), (q7, .inl (d, (12, .inl (fun _ => 0)))), (q8, .inl (d, (12, .inl (fun _ => 0)))), (q9, .inl (d, (12, .inl (fun _ => 0)))), (q10, .inl (d, (12, .inl (fun _ => 0))))] := hD
  refine lv_aload_n hx hb dX0_init_84 rfl (lv_at hl 0 rfl) ?_
  refine lv_bipush (v := nI 12) hx hb dX0_init_85 (by decide) ?_
  refine va_newa (atype := .int) (ty := .int) (a0 := (12, .inl (fun _ => 0))) hx hb (hts _ q79) rfl hK hP hD hS hA (fun _ => rfl) (by decide) (N' := 12) (by decide) (by decide) (Nat.le_of_ble_eq_true rfl) (Nat.le_of_ble_eq_true rfl) dX0_init_87 (fun q11 cA H hK1 hP hD hS => ?_)
  obtain rfl := ka_eq hK1
  have hP : va_P D vwCl [(h0, .inr (0, [.ref q1, .ref q2, .ref q3, .ref q4, .ref q5, .ref q6, .ref q7, .ref q8, .ref q9, .ref q10, .null, .null])), (q1, .inl (d, (48, .inl (fun _ => 0)))), (q2, .inl (d, (12, .inl (fun _ => 0)))), (q3, .inl (d, (12, .inl (fun _ => 0)))), (q4, .inl (d, (12, .inl (fun _ => 0)))), (q5, .inl (dL, (14, .inr (.inl (fun _ => 0))))), (q6, .inl (d, (12, .inl (fun _ => 0)))), (q7, .inl (d, (12, .inl (fun _ => 0)))), (q8, .inl (d, (12, .inl (fun _ => 0)))), (q9, .inl (d, (12, .inl (fun _ => 0)))), (q10, .inl (d, (12, .inl (fun _ => 0)))), (q11, .inl (d, (12, .inl (fun _ => 0))))] H := hP
  have hD : va_D A [(h0, .inr (0, [.ref q1, .ref q2, .ref q3, .ref q4, .ref q5, .ref q6, .ref q7, .ref q8, .ref q9, .ref q10, .null, .null])), (q1, .inl (d, (48, .inl (fun _ => 0)))), (q2, .inl (d, (12, .inl (fun _ => 0)))), (q3, .inl (d, (12, .inl (fun _ => 0)))), (q4, .inl (d, (12, .inl (fun _ => 0)))), (q5, .inl (dL, (14, .inr (.inl (fun _ => 0))))), (q6, .inl (d, (12, .inl (fun _ => 0)))), (q7, .inl (d, (12, .inl (fun _ => 0)))), (q8, .inl (d, (12, .inl (fun _ => 0)))), (q9, .inl (d, (12, .inl (fun _ => 0)))), (q10, .inl (d, (12, .inl (fun _ => 0)))), (q11, .inl (d, (12, .inl (fun _ => 0))))] := hD
  refine W.widen (k := 11) (n := 170) (Nat.le_of_ble_eq_true rfl) (Nat.le_of_ble_eq_true rfl) ?_
  refine va_putF (ci := 0) (v := .ref q11) (ty := .array .int) (C := RX0) (T := TX0) (N := 12) hx hb hts in_X0 tyX0 tyX0_ok nmX0 hown hK hP hD hS 0 rfl rfl 10 (by decide) (hts _ q52) (fun _ h9 => h9) rfl hin rfl (by decide +kernel) rfl rfl (Nat.le_of_ble_eq_true rfl) dX0_init_89 (fun H locs hP hD hS => ?_)
  have hP : va_P D vwCl [(h0, .inr (0, [.ref q1, .ref q2, .ref q3, .ref q4, .ref q5, .ref q6, .ref q7, .ref q8, .ref q9, .ref q10, .ref q11, .null])), (q1, .inl (d, (48, .inl (fun _ => 0)))), (q2, .inl (d, (12, .inl (fun _ => 0)))), (q3, .inl (d, (12, .inl (fun _ => 0)))), (q4, .inl (d, (12, .inl (fun _ => 0)))), (q5, .inl (dL, (14, .inr (.inl (fun _ => 0))))), (q6, .inl (d, (12, .inl (fun _ => 0)))), (q7, .inl (d, (12, .inl (fun _ => 0)))), (q8, .inl (d, (12, .inl (fun _ => 0)))), (q9, .inl (d, (12, .inl (fun _ => 0)))), (q10, .inl (d, (12, .inl (fun _ => 0)))), (q11, .inl (d, (12, .inl (fun _ => 0))))] H := hP
  have hD : va_D A [(h0, .inr (0, [.ref q1, .ref q2, .ref q3, .ref q4, .ref q5, .ref q6, .ref q7, .ref q8, .ref q9, .ref q10, .ref q11, .null])), (q1, .inl (d, (48, .inl (fun _ => 0)))), (q2, .inl (d, (12, .inl (fun _ => 0)))), (q3, .inl (d, (12, .inl (fun _ => 0)))), (q4, .inl (d, (12, .inl (fun _ => 0)))), (q5, .inl (dL, (14, .inr (.inl (fun _ => 0))))), (q6, .inl (d, (12, .inl (fun _ => 0)))), (q7, .inl (d, (12, .inl (fun _ => 0)))), (q8, .inl (d, (12, .inl (fun _ => 0)))), (q9, .inl (d, (12, .inl (fun _ => 0)))), (q10, .inl (d, (12, .inl (fun _ => 0)))), (q11, .inl (d, (12, .inl (fun _ => 0))))] := hD
  refine lv_aload_n hx hb dX0_init_92 rfl (lv_at hl 0 rfl) ?_
  refine lv_bipush (v := nI 12) hx hb dX0_init_93 (by decide) ?_
  refine va_newa (atype := .int) (ty := .int) (a0 := (12, .inl (fun _ => 0))) hx hb (hts _ q79) rfl hK hP hD hS hA (fun _ => rfl) (by decide) (N' := 12) (by decide) (by decide) (Nat.le_of_ble_eq_true rfl) (Nat.le_of_ble_eq_true rfl) dX0_init_95 (fun q12 cA H hK1 hP hD hS => ?_)
  obtain rfl := ka_eq hK1
  have hP : va_P D vwCl [(h0, .inr (0, [.ref q1, .ref q2, .ref q3, .ref q4, .ref q5, .ref q6, .ref q7, .ref q8, .ref q9, .ref q10, .ref q11, .null])), (q1, .inl (d, (48, .inl (fun _ => 0)))), (q2, .inl (d, (12, .inl (fun _ => 0)))), (q3, .inl (d, (12, .inl (fun _ => 0)))), (q4, .inl (d, (12, .inl (fun _ => 0)))), (q5, .inl (dL, (14, .inr (.inl (fun _ => 0))))), (q6, .inl (d, (12, .inl (fun _ => 0)))), (q7, .inl (d, (12, .inl (fun _ => 0)))), (q8, .inl (d, (12, .inl (fun _ => 0)))), (q9, .inl (d, (12, .inl (fun _ => 0)))), (q10, .inl (d, (12, .inl (fun _ => 0)))), (q11, .inl (d, (12, .inl (fun _ => 0)))), (q12, .inl (d, (12, .inl (fun _ => 0))))] H := hP
  have hD : va_D A [(h0, .inr (0, [.ref q1, .ref q2, .ref q3, .ref q4, .ref q5, .ref q6, .ref q7, .ref q8, .ref q9, .ref q10, .ref q11, .null])), (q1, .inl (d, (48, .inl (fun _ => 0)))), (q2, .inl (d, (12, .inl (fun _ => 0)))), (q3, .inl (d, (12, .inl (fun _ => 0)))), (q4, .inl (d, (12, .inl (fun _ => 0)))), (q5, .inl (dL, (14, .inr (.inl (fun _ => 0))))), (q6, .inl (d, (12, .inl (fun _ => 0)))), (q7, .inl (d, (12, .inl (fun _ => 0)))), (q8, .inl (d, (12, .inl (fun _ => 0)))), (q9, .inl (d, (12, .inl (fun _ => 0)))), (q10, .inl (d, (12, .inl (fun _ => 0)))), (q11, .inl (d, (12, .inl (fun _ => 0)))), (q12, .inl (d, (12, .inl (fun _ => 0))))] := hD
  refine W.widen (k := 12) (n := 182) (Nat.le_of_ble_eq_true rfl) (Nat.le_of_ble_eq_true rfl) ?_
  refine va_putF (ci := 0) (v := .ref q12) (ty := .array .int) (C := RX0) (T := TX0) (N := 12) hx hb hts in_X0 tyX0 tyX0_ok nmX0 hown hK hP hD hS 0 rfl rfl 11 (by decide) (hts _ q53) (fun _ h9 => h9) rfl hin rfl (by decide +kernel) rfl rfl (Nat.le_of_ble_eq_true rfl) dX0_init_97 (fun H locs hP hD hS => ?_)
  have hP : va_P D vwCl [(h0, .inr (0, [.ref q1, .ref q2, .ref q3, .ref q4, .ref q5, .ref q6, .ref q7, .ref q8, .ref q9, .ref q10, .ref q11, .ref q12])), (q1, .inl (d, (48, .inl (fun _ => 0)))), (q2, .inl (d, (12, .inl (fun _ => 0)))), (q3, .inl (d, (12, .inl (fun _ => 0)))), (q4, .inl (d, (12, .inl (fun _ => 0)))), (q5, .inl (dL, (14, .inr (.inl (fun _ => 0))))), (q6, .inl (d, (12, .inl (fun _ => 0)))), (q7, .inl (d, (12, .inl (fun _ => 0)))), (q8, .inl (d, (12, .inl (fun _ => 0)))), (q9, .inl (d, (12, .inl (fun _ => 0)))), (q10, .inl (d, (12, .inl (fun _ => 0)))), (q11, .inl (d, (12, .inl (fun _ => 0)))), (q12, .inl (d, (12, .inl (fun _ => 0))))] H := hP
  have hD : va_D A [(h0, .inr (0, [.ref q1, .ref q2, .ref q3, .ref q4, .ref q5, .ref q6, .ref q7, .ref q8, .ref q9, .ref q10, .ref q11, .ref q12])), (q1, .inl (d, (48, .inl (fun _ => 0)))), (q2, .inl (d, (12, .inl (fun _ => 0)))), (q3, .inl (d, (12, .inl (fun _ => 0)))), (q4, .inl (d, (12, .inl (fun _ => 0)))), (q5, .inl (dL, (14, .inr (.inl (fun _ => 0))))), (q6, .inl (d, (12, .inl (fun _ => 0)))), (q7, .inl (d, (12, .inl (fun _ => 0)))), (q8, .inl (d, (12, .inl (fun _ => 0)))), (q9, .inl (d, (12, .inl (fun _ => 0)))), (q10, .inl (d, (12, .inl (fun _ => 0)))), (q11, .inl (d, (12, .inl (fun _ => 0)))), (q12, .inl (d, (12, .inl (fun _ => 0))))] := hD
  have hP : va_P D vwCl (gw 0 d dL (fun k => [h0, q1, q2, q3, q4, q5, q6, q7, q8, q9, q10, q11, q12].getD k 0) (fun _ _ => 0) (fun _ => 0)) H := hP
  have hD : va_D A (gw 0 d dL (fun k => [h0, q1, q2, q3, q4, q5, q6, q7, q8, q9, q10, q11, q12].getD k 0) (fun _ _ => 0) (fun _ => 0)) := hD
  have hl : lv_has ls 2 [(0, .ref ((fun k => [h0, q1, q2, q3, q4, q5, q6, q7, q8, q9, q10, q11, q12].getD k 0) 0))] := hl
  have ha0 : (fun k => [h0, q1, q2, q3, q4, q5, q6, q7, q8, q9, q10, q11, q12].getD k 0) 0 = h0 := rfl
  generalize (fun k => [h0, q1, q2, q3, q4, q5, q6, q7, q8, q9, q10, q11, q12].getD k 0) = a at hP hD hl ha0
  refine x_init_tail (z := ((p, l, e, _, s), (m, [Value.ref h0].toArray, below, meth, c, 2), (D, d, dL, 0, a), (fun v f' g' => v = none ∧ XI (fun _ => 0) 0 f'), A, 12, 182, _, A)) (l := l) (a := a) (D := D) (d := d) (dL := dL) ⟨hx, hb, hown, hts, hml, hlocks, hr, rfl, rfl, rfl, rfl, rfl, rfl, rfl, rfl, rfl, gw_A hD, ⟨Nat.le_of_ble_eq_true rfl, Nat.le_of_ble_eq_true rfl⟩, fun _ h => h, fun v f g H locs h hX t ht hW => ?_⟩ (fun _ => 0) H locs ls ⟨hK, hP, hD, hS⟩ hl
  obtain ⟨rfl, hXI⟩ := h
  exact ⟨⟨(a, f, g), rfl, ⟨ha0, hXI⟩, by rw [ht]; exact hX.2.1, va_K.moved hW.alike hX.1, hX.2.2.1⟩, hX.2.2.2.F ht⟩
end Xni
end
section
section Mni
set_option maxHeartbeats 4000000 in
set_option maxRecDepth 100000 in
theorem m_init (l : Launch) (D : va_G) (d dL : ClassId) (h0 sz : Nat) : Met l yX1_init (ws_ yX1_init cX1_init 1 none) ({ frames := 1, cells := 12, slots := 365, locals := 12 }) (gStart D d dL 1 h0 sz) (gNew D d dL 1 h0 sz (MI (fun _ => 0) 0)) 12 365 (va_A [(h0, .inr (1, gNul))] sz) := by
  refine Met.ofW (cc := cX1_init) (maxL := 1) (ret := none) (by decide) rfl ?_
  intro p e s m args below meth c s₁ B hml hv
  obtain ⟨rfl, hsz, hP, hK, hD0⟩ := hv
  have hx := B.exec
  have hb := B.bytes
  have hr := B.returns
  have hts := atoms_spec (ws := ws_ yX1_init cX1_init 1 none) B.pre
  have hts : ∀ w ∈ lw_all, w.before _ s = true := fun w h => hts w (List.mem_cons_of_mem _ h)
  have hown : s.vm.findClass RX1 = some m.cls := findClass_of_methodNamed B.named
  have hlocks := B.notSynchronized
  have hin : meth.name = "<init>" := (name_of_methodNamed B.named B.method).1
  subst hsz
  have hD := hD0.self (sz := s.heap.size)
  unfold gNew
  generalize hAe : va_A [(h0, .inr (1, gNul))] s.heap.size = A at hD ⊢
  have hA : ∀ q : Nat, s.heap.size ≤ q → A q := fun q h => by rw [← hAe]; exact Or.inr h
  have hS : va_S A s.heap s.heap [] := va_S.rf
  have hl := lv_entry ([.ref h0]) (n := 1) (Nat.le_of_ble_eq_true rfl)
  rw [lg_entry_eq]
  generalize (lg_sl ([.ref h0]) ++ List.replicate (1 - (lg_sl ([.ref h0])).length) Slot.unset).toArray = ls at hl ⊢
  have hl : lv_has ls 1 [(0, .ref h0)] := hl
  have hP : va_P D vwCl [(h0, .inr (1, [.null, .null, .null, .null, .null, .null, .null, .null, .null, .null, .null, .null]))] s.heap := hP
  have hD : va_D A [(h0, .inr (1, [.null, .null, .null, .null, .null, .null, .null, .null, .null, .null, .null, .null]))] := hD
  refine lv_aload_n hx hb dX1_init_0 rfl (lv_at hl 0 rfl) ?_
  refine W.objInit hx hb hown (hts _ q182) (hts _ q26) (hts _ q27) rfl (by rw [hml]; exact hl.1) rfl dX1_init_1 (Nat.le_of_ble_eq_true rfl) (Nat.le_of_ble_eq_true rfl) ?_
  refine W.eq (g2 := F0 m 4 ls []) rfl ?_
  refine lv_aload_n hx hb dX1_init_4 rfl (lv_at hl 0 rfl) ?_
  refine lv_bipush (v := nI 96) hx hb dX1_init_5 (by decide) ?_
  refine va_newa (atype := .int) (ty := .int) (a0 := (96, .inl (fun _ => 0))) hx hb (hts _ q79) rfl hK hP hD hS hA (fun _ => rfl) (by decide) (N' := 96) (by decide) (by decide) (Nat.le_of_ble_eq_true rfl) (Nat.le_of_ble_eq_true rfl) dX1_init_7 (fun q1 cA H hK1 hP hD hS => ?_)
  obtain rfl := ka_eq hK1
  have hP : va_P D vwCl [(h0, .inr (1, [.null, .null, .null, .null, .null, .null, .null, .null, .null, .null, .null, .null])), (q1, .inl (d, (96, .inl (fun _ => 0))))] H := hP
  have hD : va_D A [(h0, .inr (1, [.null, .null, .null, .null, .null, .null, .null, .null, .null, .null, .null, .null])), (q1, .inl (d, (96, .inl (fun _ => 0))))] := hD
  refine W.widen (k := 1) (n := 96) (Nat.le_of_ble_eq_true rfl) (Nat.le_of_ble_eq_true rfl) ?_
  refine va_putF (ci := 1) (v := .ref q1) (ty := .array .int) (C := RX1) (T := TX1) (N := 12) hx hb hts in_X1 tyX1 tyX1_ok nmX1 hown hK hP hD hS 0 rfl rfl 0 (by decide) (hts _ q185) (fun _ h9 => h9) rfl hin rfl (by decide +kernel) rfl rfl (Nat.le_of_ble_eq_true rfl) dX1_init_9 (fun H locs hP hD hS => ?_)
  have hP : va_P D vwCl [(h0, .inr (1, [.ref q1, .null, .null, .null, .null, .null, .null, .null, .null, .null, .null, .null])), (q1, .inl (d, (96, .inl (fun _ => 0))))] H := hP
  have hD : va_D A [(h0, .inr (1, [.ref q1, .null, .null, .null, .null, .null, .null, .null, .null, .null, .null, .null])), (q1, .inl (d, (96, .inl (fun _ => 0))))] := hD
  refine lv_aload_n hx hb dX1_init_12 rfl (lv_at hl 0 rfl) ?_
  refine lv_bipush (v := nI 24) hx hb dX1_init_13 (by decide) ?_
  refine va_newa (atype := .int) (ty := .int) (a0 := (24, .inl (fun _ => 0))) hx hb (hts _ q79) rfl hK hP hD hS hA (fun _ => rfl) (by decide) (N' := 24) (by decide) (by decide) (Nat.le_of_ble_eq_true rfl) (Nat.le_of_ble_eq_true rfl) dX1_init_15 (fun q2 cA H hK1 hP hD hS => ?_)
  obtain rfl := ka_eq hK1
  have hP : va_P D vwCl [(h0, .inr (1, [.ref q1, .null, .null, .null, .null, .null, .null, .null, .null, .null, .null, .null])), (q1, .inl (d, (96, .inl (fun _ => 0)))), (q2, .inl (d, (24, .inl (fun _ => 0))))] H := hP
  have hD : va_D A [(h0, .inr (1, [.ref q1, .null, .null, .null, .null, .null, .null, .null, .null, .null, .null, .null])), (q1, .inl (d, (96, .inl (fun _ => 0)))), (q2, .inl (d, (24, .inl (fun _ => 0))))] := hD
  refine W.widen (k := 2) (n := 120) (Nat.le_of_ble_eq_true rfl) (Nat.le_of_ble_eq_true rfl) ?_
  refine va_putF (ci := 1) (v := .ref q2) (ty := .array .int) (C := RX1) (T := TX1) (N := 12) hx hb hts in_X1 tyX1 tyX1_ok nmX1 hown hK hP hD hS 0 rfl rfl 1 (by decide) (hts _ q186) (fun _ h9 => h9) rfl hin rfl (by decide +kernel) rfl rfl (Nat.le_of_ble_eq_true rfl) dX1_init_17 (fun H locs hP hD hS => ?_)
  have hP : va_P D vwCl [(h0, .inr (1, [.ref q1, .ref q2, .null, .null, .null, .null, .null, .null, .null, .null, .null, .null])), (q1, .inl (d, (96, .inl (fun _ => 0)))), (q2, .inl (d, (24, .inl (fun _ => 0))))] H := hP
  have hD : va_D A [(h0, .inr (1, [.ref q1, .ref q2, .null, .null, .null, .null, .null, .null, .null, .null, .null, .null])), (q1, .inl (d, (96, .inl (fun _ => 0)))), (q2, .inl (d, (24, .inl (fun _ => 0))))] := hD
  refine lv_aload_n hx hb dX1_init_20 rfl (lv_at hl 0 rfl) ?_
  refine lv_bipush (v := nI 24) hx hb dX1_init_21 (by decide) ?_
  refine va_newa (atype := .int) (ty := .int) (a0 := (24, .inl (fun _ => 0))) hx hb (hts _ q79) rfl hK hP hD hS hA (fun _ => rfl) (by decide) (N' := 24) (by decide) (by decide) (Nat.le_of_ble_eq_true rfl) (Nat.le_of_ble_eq_true rfl) dX1_init_23 (fun q3 cA H hK1 hP hD hS => ?_)
  obtain rfl := ka_eq hK1
  have hP : va_P D vwCl [(h0, .inr (1, [.ref q1, .ref q2, .null, .null, .null, .null, .null, .null, .null, .null, .null, .null])), (q1, .inl (d, (96, .inl (fun _ => 0)))), (q2, .inl (d, (24, .inl (fun _ => 0)))), (q3, .inl (d, (24, .inl (fun _ => 0))))] H := hP
  have hD : va_D A [(h0, .inr (1, [.ref q1, .ref q2, .null, .null, .null, .null, .null, .null, .null, .null, .null, .null])), (q1, .inl (d, (96, .inl (fun _ => 0)))), (q2, .inl (d, (24, .inl (fun _ => 0)))), (q3, .inl (d, (24, .inl (fun _ => 0))))] := hD
  refine W.widen (k := 3) (n := 144) (Nat.le_of_ble_eq_true rfl) (Nat.le_of_ble_eq_true rfl) ?_
  refine lv_dup hx hb dX1_init_25 rfl ?_
  refine lv_iconst (v := nI 0) hx hb dX1_init_26 (by decide) ?_
  refine lv_ldc hx hb hown (hts _ q183) dX1_init_27 ?_
  refine va_iast hx hb hK hP hD hS 3 0 rfl rfl (vp_in_nI (n := 0) (N := 24) (by decide) (by decide)) dX1_init_29 (fun H locs hP hD hS => ?_)
  have hP : va_P D vwCl [(h0, .inr (1, [.ref q1, .ref q2, .null, .null, .null, .null, .null, .null, .null, .null, .null, .null])), (q1, .inl (d, (96, .inl (fun _ => 0)))), (q2, .inl (d, (24, .inl (fun _ => 0)))), (q3, .inl (d, 24, .inl (upd (fun _ => 0) (nI 0).toNatClampNeg 65535)))] H := hP
  have hD : va_D A [(h0, .inr (1, [.ref q1, .ref q2, .null, .null, .null, .null, .null, .null, .null, .null, .null, .null])), (q1, .inl (d, (96, .inl (fun _ => 0)))), (q2, .inl (d, (24, .inl (fun _ => 0)))), (q3, .inl (d, 24, .inl (upd (fun _ => 0) (nI 0).toNatClampNeg 65535)))] := hD
  generalize hF1 : upd (fun _ => 0) (nI 0).toNatClampNeg 65535 = F1 at hP hD
  refine lv_dup hx hb dX1_init_30 rfl ?_
  refine lv_iconst (v := nI 1) hx hb dX1_init_31 (by decide) ?_
  refine lv_ldc hx hb hown (hts _ q183) dX1_init_32 ?_
  refine va_iast hx hb hK hP hD hS 3 0 rfl rfl (vp_in_nI (n := 1) (N := 24) (by decide) (by decide)) dX1_init_34 (fun H locs hP hD hS => ?_)
  have hP : va_P D vwCl [(h0, .inr (1, [.ref q1, .ref q2, .null, .null, .null, .null, .null, .null, .null, .null, .null, .null])), (q1, .inl (d, (96, .inl (fun _ => 0)))), (q2, .inl (d, (24, .inl (fun _ => 0)))), (q3, .inl (d, 24, .inl (upd F1 (nI 1).toNatClampNeg 65535)))] H := hP
  have hD : va_D A [(h0, .inr (1, [.ref q1, .ref q2, .null, .null, .null, .null, .null, .null, .null, .null, .null, .null])), (q1, .inl (d, (96, .inl (fun _ => 0)))), (q2, .inl (d, (24, .inl (fun _ => 0)))), (q3, .inl (d, 24, .inl (upd F1 (nI 1).toNatClampNeg 65535)))] := hD
  generalize hF2 : upd F1 (nI 1).toNatClampNeg 65535 = F2 at hP hD
  refine lv_dup hx hb dX1_init_35 rfl ?_
  refine lv_iconst (v := nI 2) hx hb dX1_init_36 (by decide) ?_
  refine lv_iconst (v := nI 0) hx hb dX1_init_37 (by decide) ?_
  refine va_iast hx hb hK hP hD hS 3 0 rfl rfl (vp_in_nI (n := 2) (N := 24) (by decide) (by decide)) dX1_init_38 (fun H locs hP hD hS => ?_)
  have hP : va_P D vwCl [(h0, .inr (1, [.ref q1, .ref q2, .null, .null, .null, .null, .null, .null, .null, .null, .null, .null])), (q1, .inl (d, (96, .inl (fun _ => 0)))), (q2, .inl (d, (24, .inl (fun _ => 0)))), (q3, .inl (d, 24, .inl (upd F2 (nI 2).toNatClampNeg (nI 0))))] H := hP
  have hD : va_D A [(h0, .inr (1, [.ref q1, .ref q2, .null, .null, .null, .null, .null, .null, .null, .null, .null, .null])), (q1, .inl (d, (96, .inl (fun _ => 0)))), (q2, .inl (d, (24, .inl (fun _ => 0)))), (q3, .inl (d, 24, .inl (upd F2 (nI 2).toNatClampNeg (nI 0))))] := hD
  generalize hF3 : upd F2 (nI 2).toNatClampNeg (nI 0) = F3 at hP hD
  refine lv_dup hx hb dX1_init_39 rfl ?_
  refine lv_iconst (v := nI 3) hx hb dX1_init_40 (by decide) ?_
  refine lv_iconst (v := nI 0) hx hb dX1_init_41 (by decide) ?_
  refine va_iast hx hb hK hP hD hS 3 0 rfl rfl (vp_in_nI (n := 3) (N := 24) (by decide) (by decide)) dX1_init_42 (fun H locs hP hD hS => ?_)
  have hP : va_P D vwCl [(h0, .inr (1, [.ref q1, .ref q2, .null, .null, .null, .null, .null, .null, .null, .null, .null, .null])), (q1, .inl (d, (96, .inl (fun _ => 0)))), (q2, .inl (d, (24, .inl (fun _ => 0)))), (q3, .inl (d, 24, .inl (upd F3 (nI 3).toNatClampNeg (nI 0))))] H := hP
  have hD : va_D A [(h0, .inr (1, [.ref q1, .ref q2, .null, .null, .null, .null, .null, .null, .null, .null, .null, .null])), (q1, .inl (d, (96, .inl (fun _ => 0)))), (q2, .inl (d, (24, .inl (fun _ => 0)))), (q3, .inl (d, 24, .inl (upd F3 (nI 3).toNatClampNeg (nI 0))))] := hD
  generalize hF4 : upd F3 (nI 3).toNatClampNeg (nI 0) = F4 at hP hD
  refine lv_dup hx hb dX1_init_43 rfl ?_
  refine lv_iconst (v := nI 4) hx hb dX1_init_44 (by decide) ?_
  refine lv_iconst (v := nI 0) hx hb dX1_init_45 (by decide) ?_
  refine va_iast hx hb hK hP hD hS 3 0 rfl rfl (vp_in_nI (n := 4) (N := 24) (by decide) (by decide)) dX1_init_46 (fun H locs hP hD hS => ?_)
  have hP : va_P D vwCl [(h0, .inr (1, [.ref q1, .ref q2, .null, .null, .null, .null, .null, .null, .null, .null, .null, .null])), (q1, .inl (d, (96, .inl (fun _ => 0)))), (q2, .inl (d, (24, .inl (fun _ => 0)))), (q3, .inl (d, 24, .inl (upd F4 (nI 4).toNatClampNeg (nI 0))))] H := hP
  have hD : va_D A [(h0, .inr (1, [.ref q1, .ref q2, .null, .null, .null, .null, .null, .null, .null, .null, .null, .null])), (q1, .inl (d, (96, .inl (fun _ => 0)))), (q2, .inl (d, (24, .inl (fun _ => 0)))), (q3, .inl (d, 24, .inl (upd F4 (nI 4).toNatClampNeg (nI 0))))] := hD
  generalize hF5 : upd F4 (nI 4).toNatClampNeg (nI 0) = F5 at hP hD
  refine lv_dup hx hb dX1_init_47 rfl ?_
  refine lv_iconst (v := nI 5) hx hb dX1_init_48 (by decide) ?_
  refine lv_iconst (v := nI 0) hx hb dX1_init_49 (by decide) ?_
  refine va_iast hx hb hK hP hD hS 3 0 rfl rfl (vp_in_nI (n := 5) (N := 24) (by decide) (by decide)) dX1_init_50 (fun H locs hP hD hS => ?_)
  have hP : va_P D vwCl [(h0, .inr (1, [.ref q1, .ref q2, .null, .null, .null, .null, .null, .null, .null, .null, .null, .null])), (q1, .inl (d, (96, .inl (fun _ => 0)))), (q2, .inl (d, (24, .inl (fun _ => 0)))), (q3, .inl (d, 24, .inl (upd F5 (nI 5).toNatClampNeg (nI 0))))] H := hP
  have hD : va_D A [(h0, .inr (1, [.ref q1, .ref q2, .null, .null, .null, .null, .null, .null, .null, .null, .null, .null])), (q1, .inl (d, (96, .inl (fun _ => 0)))), (q2, .inl (d, (24, .inl (fun _ => 0)))), (q3, .inl (d, 24, .inl (upd F5 (nI 5).toNatClampNeg (nI 0))))] := hD
  generalize hF6 : upd F5 (nI 5).toNatClampNeg (nI 0) = F6 at hP hD
  refine lv_dup hx hb dX1_init_51 rfl ?_
  refine lv_bipush (v := nI 6) hx hb dX1_init_52 (by decide) ?_
  refine lv_ldc hx hb hown (hts _ q183) dX1_init_54 ?_
  refine va_iast hx hb hK hP hD hS 3 0 rfl rfl (vp_in_nI (n := 6) (N := 24) (by decide) (by decide)) dX1_init_56 (fun H locs hP hD hS => ?_)
  have hP : va_P D vwCl [(h0, .inr (1, [.ref q1, .ref q2, .null, .null, .null, .null, .null, .null, .null, .null, .null, .null])), (q1, .inl (d, (96, .inl (fun _ => 0)))), (q2, .inl (d, (24, .inl (fun _ => 0)))), (q3, .inl (d, 24, .inl (upd F6 (nI 6).toNatClampNeg 65535)))] H := hP
  have hD : va_D A [(h0, .inr (1, [.ref q1, .ref q2, .null, .null, .null, .null, .null, .null, .null, .null, .null, .null])), (q1, .inl (d, (96, .inl (fun _ => 0)))), (q2, .inl (d, (24, .inl (fun _ => 0)))), (q3, .inl (d, 24, .inl (upd F6 (nI 6).toNatClampNeg 65535)))] := hD
  generalize hF7 : upd F6 (nI 6).toNatClampNeg 65535 = F7 at hP hD
  refine lv_dup hx hb dX1_init_57 rfl ?_
  refine lv_bipush (v := nI 7) hx hb dX1_init_58 (by decide) ?_
  refine lv_ldc hx hb hown (hts _ q183) dX1_init_60 ?_
  refine va_iast hx hb hK hP hD hS 3 0 rfl rfl (vp_in_nI (n := 7) (N := 24) (by decide) (by decide)) dX1_init_62 (fun H locs hP hD hS => ?_)
  have hP : va_P D vwCl [(h0, .inr (1, [.ref q1, .ref q2, .null, .null, .null, .null, .null, .null, .null, .null, .null, .null])), (q1, .inl (d, (96, .inl (fun _ => 0)))), (q2, .inl (d, (24, .inl (fun _ => 0)))), (q3, .inl (d, 24, .inl (upd F7 (nI 7).toNatClampNeg 65535)))] H := hP
  have hD : va_D A [(h0, .inr (1, [.ref q1, .ref q2, .null, .null, .null, .null, .null, .null, .null, .null, .null, .null])), (q1, .inl (d, (96, .inl (fun _ => 0)))), (q2, .inl (d, (24, .inl (fun _ => 0)))), (q3, .inl (d, 24, .inl (upd F7 (nI 7).toNatClampNeg 65535)))] := hD
  generalize hF8 : upd F7 (nI 7).toNatClampNeg 65535 = F8 at hP hD
  refine lv_dup hx hb dX1_init_63 rfl ?_
  refine lv_bipush (v := nI 8) hx hb dX1_init_64 (by decide) ?_
  refine lv_ldc hx hb hown (hts _ q184) dX1_init_66 ?_
  refine va_iast hx hb hK hP hD hS 3 0 rfl rfl (vp_in_nI (n := 8) (N := 24) (by decide) (by decide)) dX1_init_68 (fun H locs hP hD hS => ?_)
  have hP : va_P D vwCl [(h0, .inr (1, [.ref q1, .ref q2, .null, .null, .null, .null, .null, .null, .null, .null, .null, .null])), (q1, .inl (d, (96, .inl (fun _ => 0)))), (q2, .inl (d, (24, .inl (fun _ => 0)))), (q3, .inl (d, 24, .inl (upd F8 (nI 8).toNatClampNeg 65534)))] H := hP
  have hD : va_D A [(h0, .inr (1, [.ref q1, .ref q2, .null, .null, .null, .null, .null, .null, .null, .null, .null, .null])), (q1, .inl (d, (96, .inl (fun _ => 0)))), (q2, .inl (d, (24, .inl (fun _ => 0)))), (q3, .inl (d, 24, .inl (upd F8 (nI 8).toNatClampNeg 65534)))] := hD
  generalize hF9 : upd F8 (nI 8).toNatClampNeg 65534 = F9 at hP hD
  refine lv_dup hx hb dX1_init_69 rfl ?_
  refine lv_bipush (v := nI 9) hx hb dX1_init_70 (by decide) ?_
  refine lv_ldc hx hb hown (hts _ q183) dX1_init_72 ?_
  refine va_iast hx hb hK hP hD hS 3 0 rfl rfl (vp_in_nI (n := 9) (N := 24) (by decide) (by decide)) dX1_init_74 (fun H locs hP hD hS => ?_)
  have hP : va_P D vwCl [(h0, .inr (1, [.ref q1, .ref q2, .null, .null, .null, .null, .null, .null, .null, .null, .null, .null])), (q1, .inl (d, (96, .inl (fun _ => 0)))), (q2, .inl (d, (24, .inl (fun _ => 0)))), (q3, .inl (d, 24, .inl (upd F9 (nI 9).toNatClampNeg 65535)))] H := hP
  have hD : va_D A [(h0, .inr (1, [.ref q1, .ref q2, .null, .null, .null, .null, .null, .null, .null, .null, .null, .null])), (q1, .inl (d, (96, .inl (fun _ => 0)))), (q2, .inl (d, (24, .inl (fun _ => 0)))), (q3, .inl (d, 24, .inl (upd F9 (nI 9).toNatClampNeg 65535)))] := hD
  generalize hF10 : upd F9 (nI 9).toNatClampNeg 65535 = F10 at hP hD
  refine lv_dup hx hb dX1_init_75 rfl ?_
  refine lv_bipush (v := nI 10) hx hb dX1_init_76 (by decide) ?_
  refine lv_ldc hx hb hown (hts _ q183) dX1_init_78 ?_
  refine va_iast hx hb hK hP hD hS 3 0 rfl rfl (vp_in_nI (n := 10) (N := 24) (by decide) (by decide)) dX1_init_80 (fun H locs hP hD hS => ?_)
  have hP : va_P D vwCl [(h0, .inr (1, [.ref q1, .ref q2, .null, .null, .null, .null, .null, .null, .null, .null, .null, .null])), (q1, .inl (d, (96, .inl (fun _ => 0)))), (q2, .inl (d, (24, .inl (fun _ => 0)))), (q3, .inl (d, 24, .inl (upd F10 (nI 10).toNatClampNeg 65535)))] H := hP
  have hD : va_D A [(h0, .inr (1, [.ref q1, .ref q2, .null, .null, .null, .null, .null, .null, .null, .null, .null, .null])), (q1, .inl (d, (96, .inl (fun _ => 0)))), (q2, .inl (d, (24, .inl (fun _ => 0)))), (q3, .inl (d, 24, .inl (upd F10 (nI 10).toNatClampNeg 65535)))] := hD
  generalize hF11 : upd F10 (nI 10).toNatClampNeg 65535 = F11 at hP hD
  refine lv_dup hx hb dX1_init_81 rfl ?_
  refine lv_bipush (v := nI 11) hx hb dX1_init_82 (by decide) ?_
  refine lv_ldc hx hb hown (hts _ q183) dX1_init_84 ?_
  refine va_iast hx hb hK hP hD hS 3 0 rfl rfl (vp_in_nI (n := 11) (N := 24) (by decide) (by decide)) dX1_init_86 (fun H locs hP hD hS => ?_)
  have hP : va_P D vwCl [(h0, .inr (1, [.ref q1, .ref q2, .null, .null, .null, .null, .null, .null, .null, .null, .null, .null])), (q1, .inl (d, (96, .inl (fun _ => 0)))), (q2, .inl (d, (24, .inl (fun _ => 0)))), (q3, .inl (d, 24, .inl (upd F11 (nI 11).toNatClampNeg 65535)))] H := hP
  have hD : va_D A [(h0, .inr (1, [.ref q1, .ref q2, .null, .null, .null, .null, .null, .null, .null, .null, .null, .null])), (q1, .inl (d, (96, .inl (fun _ => 0)))), (q2, .inl (d, (24, .inl (fun _ => 0)))), (q3, .inl (d, 24, .inl (upd F11 (nI 11).toNatClampNeg 65535)))] := hD
  generalize hF12 : upd F11 (nI 11).toNatClampNeg 65535 = F12 at hP hD
  refine lv_dup hx hb dX1_init_87 rfl ?_
  refine lv_bipush (v := nI 12) hx hb dX1_init_88 (by decide) ?_
  refine lv_ldc hx hb hown (hts _ q183) dX1_init_90 ?_
  refine va_iast hx hb hK hP hD hS 3 0 rfl rfl (vp_in_nI (n := 12) (N := 24) (by decide) (by decide)) dX1_init_92 (fun H locs hP hD hS => ?_)
  have hP : va_P D vwCl [(h0, .inr (1, [.ref q1, .ref q2, .null, .null, .null, .null, .null, .null, .null, .null, .null, .null])), (q1, .inl (d, (96, .inl (fun _ => 0)))), (q2, .inl (d, (24, .inl (fun _ => 0)))), (q3, .inl (d, 24, .inl (upd F12 (nI 12).toNatClampNeg 65535)))] H := hP
  have hD : va_D A [(h0, .inr (1, [.ref q1, .ref q2, .null, .null, .null, .null, .null, .null, .null, .null, .null, .null])), (q1, .inl (d, (96, .inl (fun _ => 0)))), (q2, .inl (d, (24, .inl (fun _ => 0)))), (q3, .inl (d, 24, .inl (upd F12 (nI 12).toNatClampNeg 65535)))] := hD
  generalize hF13 : upd F12 (nI 12).toNatClampNeg 65535 = F13 at hP hD
  refine lv_dup hx hb dX1_init_93 rfl ?_
  refine lv_bipush (v := nI 13) hx hb dX1_init_94 (by decide) ?_
  refine lv_ldc hx hb hown (hts _ q183) dX1_init_96 ?_
  refine va_iast hx hb hK hP hD hS 3 0 rfl rfl (vp_in_nI (n := 13) (N := 24) (by decide) (by decide)) dX1_init_98 (fun H locs hP hD hS => ?_)
  have hP : va_P D vwCl [(h0, .inr (1, [.ref q1, .ref q2, .null, .null, .null, .null, .null, .null, .null, .null, .null, .null])), (q1, .inl (d, (96, .inl (fun _ => 0)))), (q2, .inl (d, (24, .inl (fun _ => 0)))), (q3, .inl (d, 24, .inl (upd F13 (nI 13).toNatClampNeg 65535)))] H := hP
  have hD : va_D A [(h0, .inr (1, [.ref q1, .ref q2, .null, .null, .null, .null, .null, .null, .null, .null, .null, .null])), (q1, .inl (d, (96, .inl (fun _ => 0)))), (q2, .inl (d, (24, .inl (fun _ => 0)))), (q3, .inl (d, 24, .inl (upd F13 (nI 13).toNatClampNeg 65535)))] := hD
  generalize hF14 : upd F13 (nI 13).toNatClampNeg 65535 = F14 at hP hD
  refine lv_dup hx hb dX1_init_99 rfl ?_
  refine lv_bipush (v := nI 14) hx hb dX1_init_100 (by decide) ?_
  refine lv_ldc hx hb hown (hts _ q183) dX1_init_102 ?_
  refine va_iast hx hb hK hP hD hS 3 0 rfl rfl (vp_in_nI (n := 14) (N := 24) (by decide) (by decide)) dX1_init_104 (fun H locs hP hD hS => ?_)
  have hP : va_P D vwCl [(h0, .inr (1, [.ref q1, .ref q2, .null, .null, .null, .null, .null, .null, .null, .null, .null, .null])), (q1, .inl (d, (96, .inl (fun _ => 0)))), (q2, .inl (d, (24, .inl (fun _ => 0)))), (q3, .inl (d, 24, .inl (upd F14 (nI 14).toNatClampNeg 65535)))] H := hP
  have hD : va_D A [(h0, .inr (1, [.ref q1, .ref q2, .null, .null, .null, .null, .null, .null, .null, .null, .null, .null])), (q1, .inl (d, (96, .inl (fun _ => 0)))), (q2, .inl (d, (24, .inl (fun _ => 0)))), (q3, .inl (d, 24, .inl (upd F14 (nI 14).toNatClampNeg 65535)))] := hD
  generalize hF15 : upd F14 (nI 14).toNatClampNeg 65535 = F15 at hP hD
  refine lv_dup hx hb dX1_init_105 rfl ?_
  refine lv_bipush (v := nI 15) hx hb dX1_init_106 (by decide) ?_
  refine lv_ldc hx hb hown (hts _ q183) dX1_init_108 ?_
  refine va_iast hx hb hK hP hD hS 3 0 rfl rfl (vp_in_nI (n := 15) (N := 24) (by decide) (by decide)) dX1_init_110 (fun H locs hP hD hS => ?_)
  have hP : va_P D vwCl [(h0, .inr (1, [.ref q1, .ref q2, .null, .null, .null, .null, .null, .null, .null, .null, .null, .null])), (q1, .inl (d, (96, .inl (fun _ => 0)))), (q2, .inl (d, (24, .inl (fun _ => 0)))), (q3, .inl (d, 24, .inl (upd F15 (nI 15).toNatClampNeg 65535)))] H := hP
  have hD : va_D A [(h0, .inr (1, [.ref q1, .ref q2, .null, .null, .null, .null, .null, .null, .null, .null, .null, .null])), (q1, .inl (d, (96, .inl (fun _ => 0)))), (q2, .inl (d, (24, .inl (fun _ => 0)))), (q3, .inl (d, 24, .inl (upd F15 (nI 15).toNatClampNeg 65535)))] := hD
  generalize hF16 : upd F15 (nI 15).toNatClampNeg 65535 = F16 at hP hD
  refine lv_dup hx hb dX1_init_111 rfl ?_
  refine lv_bipush (v := nI 16) hx hb dX1_init_112 (by decide) ?_
  refine lv_ldc hx hb hown (hts _ q183) dX1_init_114 ?_
  refine va_iast hx hb hK hP hD hS 3 0 rfl rfl (vp_in_nI (n := 16) (N := 24) (by decide) (by decide)) dX1_init_116 (fun H locs hP hD hS => ?_)
  have hP : va_P D vwCl [(h0, .inr (1, [.ref q1, .ref q2, .null, .null, .null, .null, .null, .null, .null, .null, .null, .null])), (q1, .inl (d, (96, .inl (fun _ => 0)))), (q2, .inl (d, (24, .inl (fun _ => 0)))), (q3, .inl (d, 24, .inl (upd F16 (nI 16).toNatClampNeg 65535)))] H := hP
  have hD : va_D A [(h0, .inr (1, [.ref q1, .ref q2, .null, .null, .null, .null, .null, .null, .null, .null, .null, .null])), (q1, .inl (d, (96, .inl (fun _ => 0)))), (q2, .inl (d, (24, .inl (fun _ => 0)))), (q3, .inl (d, 24, .inl (upd F16 (nI 16).toNatClampNeg 65535)))] := hD
  generalize hF17 : upd F16 (nI 16).toNatClampNeg 65535 = F17 at hP hD
  refine lv_dup hx hb dX1_init_117 rfl ?_
  refine lv_bipush (v := nI 17) hx hb dX1_init_118 (by decide) ?_
  refine lv_ldc hx hb hown (hts _ q183) dX1_init_120 ?_
  refine va_iast hx hb hK hP hD hS 3 0 rfl rfl (vp_in_nI (n := 17) (N := 24) (by decide) (by decide)) dX1_init_122 (fun H locs hP hD hS => ?_)
  have hP : va_P D vwCl [(h0, .inr (1, [.ref q1, .ref q2, .null, .null, .null, .null, .null, .null, .null, .null, .null, .null])), (q1, .inl (d, (96, .inl (fun _ => 0)))), (q2, .inl (d, (24, .inl (fun _ => 0)))), (q3, .inl (d, 24, .inl (upd F17 (nI 17).toNatClampNeg 65535)))] H := hP
  have hD : va_D A [(h0, .inr (1, [.ref q1, .ref q2, .null, .null, .null, .null, .null, .null, .null, .null, .null, .null])), (q1, .inl (d, (96, .inl (fun _ => 0)))), (q2, .inl (d, (24, .inl (fun _ => 0)))), (q3, .inl (d, 24, .inl (upd F17 (nI 17).toNatClampNeg 65535)))] := hD
  generalize hF18 : upd F17 (nI 17).toNatClampNeg 65535 = F18 at hP hD
  refine lv_dup hx hb dX1_init_123 rfl ?_
  refine lv_bipush (v := nI 18) hx hb dX1_init_124 (by decide) ?_
  refine lv_ldc hx hb hown (hts _ q183) dX1_init_126 ?_
  refine va_iast hx hb hK hP hD hS 3 0 rfl rfl (vp_in_nI (n := 18) (N := 24) (by decide) (by decide)) dX1_init_128 (fun H locs hP hD hS => ?_)
  have hP : va_P D vwCl [(h0, .inr (1, [.ref q1, .ref q2, .null, .null, .null, .null, .null, .null, .null, .null, .null, .null])), (q1, .inl (d, (96, .inl (fun _ => 0)))), (q2, .inl (d, (24, .inl (fun _ => 0)))), (q3, .inl (d, 24, .inl (upd F18 (nI 18).toNatClampNeg 65535)))] H := hP
  have hD : va_D A [(h0, .inr (1, [.ref q1, .ref q2, .null, .null, .null, .null, .null, .null, .null, .null, .null, .null])), (q1, .inl (d, (96, .inl (fun _ => 0)))), (q2, .inl (d, (24, .inl (fun _ => 0)))), (q3, .inl (d, 24, .inl (upd F18 (nI 18).toNatClampNeg 65535)))] := hD
  generalize hF19 : upd F18 (nI 18).toNatClampNeg 65535 = F19 at hP hD
  refine lv_dup hx hb dX1_init_129 rfl ?_
  refine lv_bipush (v := nI 19) hx hb dX1_init_130 (by decide) ?_
  refine lv_ldc hx hb hown (hts _ q183) dX1_init_132 ?_
  refine va_iast hx hb hK hP hD hS 3 0 rfl rfl (vp_in_nI (n := 19) (N := 24) (by decide) (by decide)) dX1_init_134 (fun H locs hP hD hS => ?_)
  have hP : va_P D vwCl [(h0, .inr (1, [.ref q1, .ref q2, .null, .null, .null, .null, .null, .null, .null, .null, .null, .null])), (q1, .inl (d, (96, .inl (fun _ => 0)))), (q2, .inl (d, (24, .inl (fun _ => 0)))), (q3, .inl (d, 24, .inl (upd F19 (nI 19).toNatClampNeg 65535)))] H := hP
  have hD : va_D A [(h0, .inr (1, [.ref q1, .ref q2, .null, .null, .null, .null, .null, .null, .null, .null, .null, .null])), (q1, .inl (d, (96, .inl (fun _ => 0)))), (q2, .inl (d, (24, .inl (fun _ => 0)))), (q3, .inl (d, 24, .inl (upd F19 (nI 19).toNatClampNeg 65535)))] := hD
  generalize hF20 : upd F19 (nI 19).toNatClampNeg 65535 = F20 at hP hD
  refine lv_dup hx hb dX1_init_135 rfl ?_
  refine lv_bipush (v := nI 20) hx hb dX1_init_136 (by decide) ?_
  refine lv_ldc hx hb hown (hts _ q183) dX1_init_138 ?_
  refine va_iast hx hb hK hP hD hS 3 0 rfl rfl (vp_in_nI (n := 20) (N := 24) (by decide) (by decide)) dX1_init_140 (fun H locs hP hD hS => ?_)
  have hP : va_P D vwCl [(h0, .inr (1, [.ref q1, .ref q2, .null, .null, .null, .null, .null, .null, .null, .null, .null, .null])), (q1, .inl (d, (96, .inl (fun _ => 0)))), (q2, .inl (d, (24, .inl (fun _ => 0)))), (q3, .inl (d, 24, .inl (upd F20 (nI 20).toNatClampNeg 65535)))] H := hP
  have hD : va_D A [(h0, .inr (1, [.ref q1, .ref q2, .null, .null, .null, .null, .null, .null, .null, .null, .null, .null])), (q1, .inl (d, (96, .inl (fun _ => 0)))), (q2, .inl (d, (24, .inl (fun _ => 0)))), (q3, .inl (d, 24, .inl (upd F20 (nI 20).toNatClampNeg 65535)))] := hD
  generalize hF21 : upd F20 (nI 20).toNatClampNeg 65535 = F21 at hP hD
  refine lv_dup hx hb dX1_init_141 rfl ?_
  refine lv_bipush (v := nI 21) hx hb dX1_init_142 (by decide) ?_
  refine lv_ldc hx hb hown (hts _ q183) dX1_init_144 ?_
  refine va_iast hx hb hK hP hD hS 3 0 rfl rfl (vp_in_nI (n := 21) (N := 24) (by decide) (by decide)) dX1_init_146 (fun H locs hP hD hS => ?_)
  have hP : va_P D vwCl [(h0, .inr (1, [.ref q1, .ref q2, .null, .null, .null, .null, .null, .null, .null, .null, .null, .null])), (q1, .inl (d, (96, .inl (fun _ => 0)))), (q2, .inl (d, (24, .inl (fun _ => 0)))), (q3, .inl (d, 24, .inl (upd F21 (nI 21).toNatClampNeg 65535)))] H := hP
  have hD : va_D A [(h0, .inr (1, [.ref q1, .ref q2, .null, .null, .null, .null, .null, .null, .null, .null, .null, .null])), (q1, .inl (d, (96, .inl (fun _ => 0)))), (q2, .inl (d, (24, .inl (fun _ => 0)))), (q3, .inl (d, 24, .inl (upd F21 (nI 21).toNatClampNeg 65535)))] := hD
  generalize hF22 : upd F21 (nI 21).toNatClampNeg 65535 = F22 at hP hD
  refine lv_dup hx hb dX1_init_147 rfl ?_
  refine lv_bipush (v := nI 22) hx hb dX1_init_148 (by decide) ?_
  refine lv_ldc hx hb hown (hts _ q183) dX1_init_150 ?_
  refine va_iast hx hb hK hP hD hS 3 0 rfl rfl (vp_in_nI (n := 22) (N := 24) (by decide) (by decide)) dX1_init_152 (fun H locs hP hD hS => ?_)
  have hP : va_P D vwCl [(h0, .inr (1, [.ref q1, .ref q2, .null, .null, .null, .null, .null, .null, .null, .null, .null, .null])), (q1, .inl (d, (96, .inl (fun _ => 0)))), (q2, .inl (d, (24, .inl (fun _ => 0)))), (q3, .inl (d, 24, .inl (upd F22 (nI 22).toNatClampNeg 65535)))] H := hP
  have hD : va_D A [(h0, .inr (1, [.ref q1, .ref q2, .null, .null, .null, .null, .null, .null, .null, .null, .null, .null])), (q1, .inl (d, (96, .inl (fun _ => 0)))), (q2, .inl (d, (24, .inl (fun _ => 0)))), (q3, .inl (d, 24, .inl (upd F22 (nI 22).toNatClampNeg 65535)))] := hD
  generalize hF23 : upd F22 (nI 22).toNatClampNeg 65535 = F23 at hP hD
  refine lv_dup hx hb dX1_init_153 rfl ?_
  refine lv_bipush (v := nI 23) hx hb dX1_init_154 (by decide) ?_
  refine lv_ldc hx hb hown (hts _ q183) dX1_init_156 ?_
  refine va_iast hx hb hK hP hD hS 3 0 rfl rfl (vp_in_nI (n := 23) (N := 24) (by decide) (by decide)) dX1_init_158 (fun H locs hP hD hS => ?_)
  have hP : va_P D vwCl [(h0, .inr (1, [.ref q1, .ref q2, .null, .null, .null, .null, .null, .null, .null, .null, .null, .null])), (q1, .inl (d, (96, .inl (fun _ => 0)))), (q2, .inl (d, (24, .inl (fun _ => 0)))), (q3, .inl (d, 24, .inl (upd F23 (nI 23).toNatClampNeg 65535)))] H := hP
  have hD : va_D A [(h0, .inr (1, [.ref q1, .ref q2, .null, .null, .null, .null, .null, .null, .null, .null, .null, .null])), (q1, .inl (d, (96, .inl (fun _ => 0)))), (q2, .inl (d, (24, .inl (fun _ => 0)))), (q3, .inl (d, 24, .inl (upd F23 (nI 23).toNatClampNeg 65535)))] := hD
  generalize hF24 : upd F23 (nI 23).toNatClampNeg 65535 = F24 at hP hD
  refine va_putF (ci := 1) (v := .ref q3) (ty := .array .int) (C := RX1) (T := TX1) (N := 12) hx hb hts in_X1 tyX1 tyX1_ok nmX1 hown hK hP hD hS 0 rfl rfl 2 (by decide) (hts _ q187) (fun _ h9 => h9) rfl hin rfl (by decide +kernel) rfl rfl (Nat.le_of_ble_eq_true rfl) dX1_init_159 (fun H locs hP hD hS => ?_)
  have hP : va_P D vwCl [(h0, .inr (1, [.ref q1, .ref q2, .ref q3, .null, .null, .null, .null, .null, .null, .null, .null, .null])), (q1, .inl (d, (96, .inl (fun _ => 0)))), (q2, .inl (d, (24, .inl (fun _ => 0)))), (q3, .inl (d, 24, .inl F24))] H := hP
  have hD : va_D A [(h0, .inr (1, [.ref q1, .ref q2, .ref q3, .null, .null, .null, .null, .null, .null, .null, .null, .null])), (q1, .inl (d, (96, .inl (fun _ => 0)))), (q2, .inl (d, (24, .inl (fun _ => 0)))), (q3, .inl (d, 24, .inl F24))] := hD
  refine lv_aload_n hx hb dX1_init_162 rfl (lv_at hl 0 rfl) ?_
  refine lv_bipush (v := nI 24) hx hb dX1_init_163 (by decide) ?_
  refine va_newa (atype := .int) (ty := .int) (a0 := (24, .inl (fun _ => 0))) hx hb (hts _ q79) rfl hK hP hD hS hA (fun _ => rfl) (by decide) (N' := 24) (by decide) (by decide) (Nat.le_of_ble_eq_true rfl) (Nat.le_of_ble_eq_true rfl) dX1_init_165 (fun q4 cA H hK1 hP hD hS => ?_)
  obtain rfl := ka_eq hK1
  have hP : va_P D vwCl [(h0, .inr (1, [.ref q1, .ref q2, .ref q3, .null, .null, .null, .null, .null, .null, .null, .null, .null])), (q1, .inl (d, (96, .inl (fun _ => 0)))), (q2, .inl (d, (24, .inl (fun _ => 0)))), (q3, .inl (d, 24, .inl F24)), (q4, .inl (d, (24, .inl (fun _ => 0))))] H := hP
  have hD : va_D A [(h0, .inr (1, [.ref q1, .ref q2, .ref q3, .null, .null, .null, .null, .null, .null, .null, .null, .null])), (q1, .inl (d, (96, .inl (fun _ => 0)))), (q2, .inl (d, (24, .inl (fun _ => 0)))), (q3, .inl (d, 24, .inl F24)), (q4, .inl (d, (24, .inl (fun _ => 0))))] := hD
  refine W.widen (k := 4) (n := 168) (Nat.le_of_ble_eq_true rfl) (Nat.le_of_ble_eq_true rfl) ?_
  refine va_putF (ci := 1) (v := .ref q4) (ty := .array .int) (C := RX1) (T := TX1) (N := 12) hx hb hts in_X1 tyX1 tyX1_ok nmX1 hown hK hP hD hS 0 rfl rfl 3 (by decide) (hts _ q188) (fun _ h9 => h9) rfl hin rfl (by decide +kernel) rfl rfl (Nat.le_of_ble_eq_true rfl) dX1_init_167 (fun H locs hP hD hS => ?_)
  have hP : va_P D vwCl [(h0, .inr (1, [.ref q1, .ref q2, .ref q3, .ref q4, .null, .null, .null, .null, .null, .null, .null, .null])), (q1, .inl (d, (96, .inl (fun _ => 0)))), (q2, .inl (d, (24, .inl (fun _ => 0)))), (q3, .inl (d, 24, .inl F24)), (q4, .inl (d, (24, .inl (fun _ => 0))))] H := hP
  have hD : va_D A [(h0, .inr (1, [.ref q1, .ref q2, .ref q3, .ref q4, .null, .null, .null, .null, .null, .null, .null, .null])), (q1, .inl (d, (96, .inl (fun _ => 0)))), (q2, .inl (d, (24, .inl (fun _ => 0)))), (q3, .inl (d, 24, .inl F24)), (q4, .inl (d, (24, .inl (fun _ => 0))))] := hD
  refine lv_aload_n hx hb dX1_init_170 rfl (lv_at hl 0 rfl) ?_
  refine lv_bipush (v := nI 25) hx hb dX1_init_171 (by decide) ?_
  refine va_newa (atype := .int) (ty := .int) (a0 := (25, .inl (fun _ => 0))) hx hb (hts _ q79) rfl hK hP hD hS hA (fun _ => rfl) (by decide) (N' := 25) (by decide) (by decide) (Nat.le_of_ble_eq_true rfl) (Nat.le_of_ble_eq_true rfl) dX1_init_173 (fun q5 cA H hK1 hP hD hS => ?_)
  obtain rfl := ka_eq hK1
  have hP : va_P D vwCl [(h0, .inr (1, [.ref q1, .ref q2, .ref q3, .ref q4, .null, .null, .null, .null, .null, .null, .null, .null])), (q1, .inl (d, (96, .inl (fun _ => 0)))), (q2, .inl (d, (24, .inl (fun _ => 0)))), (q3, .inl (d, 24, .inl F24)), (q4, .inl (d, (24, .inl (fun _ => 0)))), (q5, .inl (d, (25, .inl (fun _ => 0))))] H := hP
  have hD : va_D A [(h0, .inr (1, [.ref q1, .ref q2, .ref q3, .ref q4, .null, .null, .null, .null, .null, .null, .null, .null])), (q1, .inl (d, (96, .inl (fun _ => 0)))), (q2, .inl (d, (24, .inl (fun _ => 0)))), (q3, .inl (d, 24, .inl F24)), (q4, .inl (d, (24, .inl (fun _ => 0)))), (q5, .inl (d, (25, .inl (fun _ => 0))))] := hD
  refine W.widen (k := 5) (n := 193) (Nat.le_of_ble_eq_true rfl) (Nat.le_of_ble_eq_true rfl) ?_
  refine va_putF (ci := 1) (v := .ref q5) (ty := .array .int) (C := RX1) (T := TX1) (N := 12) hx hb hts in_X1 tyX1 tyX1_ok nmX1 hown hK hP hD hS 0 rfl rfl 4 (by decide) (hts _ q189) (fun _ h9 => h9) rfl hin rfl (by decide +kernel) rfl rfl (Nat.le_of_ble_eq_true rfl) dX1_init_175 (fun H locs hP hD hS => ?_)
  have hP : va_P D vwCl [(h0, .inr (1, [.ref q1, .ref q2, .ref q3, .ref q4, .ref q5, .null, .null, .null, .null, .null, .null, .null])), (q1, .inl (d, (96, .inl (fun _ => 0)))), (q2, .inl (d, (24, .inl (fun _ => 0)))), (q3, .inl (d, 24, .inl F24)), (q4, .inl (d, (24, .inl (fun _ => 0)))), (q5, .inl (d, (25, .inl (fun _ => 0))))] H := hP
  have hD : va_D A [(h0, .inr (1, [.ref q1, .ref q2, .ref q3, .ref q4, .ref q5, .null, .null, .null, .null, .null, .null, .null])), (q1, .inl (d, (96, .inl (fun _ => 0)))), (q2, .inl (d, (24, .inl (fun _ => 0)))), (q3, .inl (d, 24, .inl F24)), (q4, .inl (d, (24, .inl (fun _ => 0)))), (q5, .inl (d, (25, .inl (fun _ => 0))))] := hD
  refine lv_aload_n hx hb dX1_init_178 rfl (lv_at hl 0 rfl) ?_
  refine lv_bipush (v := nI 24) hx hb dX1_init_179 (by decide) ?_
  refine va_newa (atype := .int) (ty := .int) (a0 := (24, .inl (fun _ => 0))) hx hb (hts _ q79) rfl hK hP hD hS hA (fun _ => rfl) (by decide) (N' := 24) (by decide) (by decide) (Nat.le_of_ble_eq_true rfl) (Nat.le_of_ble_eq_true rfl) dX1_init_181 (fun q6 cA H hK1 hP hD hS => ?_)
  obtain rfl := ka_eq hK1
  have hP : va_P D vwCl [(h0, .inr (1, [.ref q1, .ref q2, .ref q3, .ref q4, .ref q5, .null, .null, .null, .null, .null, .null, .null])), (q1, .inl (d, (96, .inl (fun _ => 0)))), (q2, .inl (d, (24, .inl (fun _ => 0)))), (q3, .inl (d, 24, .inl F24)), (q4, .inl (d, (24, .inl (fun _ => 0)))), (q5, .inl (d, (25, .inl (fun _ => 0)))), (q6, .inl (d, (24, .inl (fun _ => 0))))] H := hP
  have hD : va_D A [(h0, .inr (1, [.ref q1, .ref q2, .ref q3, .ref q4, .ref q5, .null, .null, .null, .null, .null, .null, .null])), (q1, .inl (d, (96, .inl (fun _ => 0)))), (q2, .inl (d, (24, .inl (fun _ => 0)))), (q3, .inl (d, 24, .inl F24)), (q4, .inl (d, (24, .inl (fun _ => 0)))), (q5, .inl (d, (25, .inl (fun _ => 0)))), (q6, .inl (d, (24, .inl (fun _ => 0))))] := hD
  refine W.widen (k := 6) (n := 217) (Nat.le_of_ble_eq_true rfl) (Nat.le_of_ble_eq_true rfl) ?_
  refine va_putF (ci := 1) (v := .ref q6) (ty := .array .int) (C := RX1) (T := TX1) (N := 12) hx hb hts in_X1 tyX1 tyX1_ok nmX1 hown hK hP hD hS 0 rfl rfl 5 (by decide) (hts _ q190) (fun _ h9 => h9) rfl hin rfl (by decide +kernel) rfl rfl (Nat.le_of_ble_eq_true rfl) dX1_init_183 (fun H locs hP hD hS => ?_)
  have hP : va_P D vwCl [(h0, .inr (1, [.ref q1, .ref q2, .ref q3, .ref q4, .ref q5, .ref q6, .null, .null, .null, .null, .null, .null])), (q1, .inl (d, (96, .inl (fun _ => 0)))), (q2, .inl (d, (24, .inl (fun _ => 0)))), (q3, .inl (d, 24, .inl F24)), (q4, .inl (d, (24, .inl (fun _ => 0)))), (q5, .inl (d, (25, .inl (fun _ => 0)))), (q6, .inl (d, (24, .inl (fun _ => 0))))] H := hP
  have hD : va_D A [(h0, .inr (1, [.ref q1, .ref q2, .ref q3, .ref q4, .ref q5, .ref q6, .null, .null, .null, .null, .null, .null])), (q1, .inl (d, (96, .inl (fun _ => 0)))), (q2, .inl (d, (24, .inl (fun _ => 0)))), (q3, .inl (d, 24, .inl F24)), (q4, .inl (d, (24, .inl (fun _ => 0)))), (q5, .inl (d, (25, .inl (fun _ => 0)))), (q6, .inl (d, (24, .inl (fun _ => 0))))] := hD
  refine lv_aload_n hx hb dX1_init_186 rfl (lv_at hl 0 rfl) ?_
  refine lv_bipush (v := nI 24) hx hb dX1_init_187 (by decide) ?_
  refine va_newa (atype := .int) (ty := .int) (a0 := (24, .inl (fun _ => 0))) hx hb (hts _ q79) rfl hK hP hD hS hA (fun _ => rfl) (by decide) (N' := 24) (by decide) (by decide) (Nat.le_of_ble_eq_true rfl) (Nat.le_of_ble_eq_true rfl) dX1_init_189 (fun q7 cA H hK1 hP hD hS => ?_)
  obtain rfl := ka_eq hK1
  have hP : va_P D vwCl [(h0, .inr (1, [.ref q1, .ref q2, .ref q3, .ref q4, .ref q5, .ref q6, .null, .null, .null, .null, .null, .null])), (q1, .inl (d, (96, .inl (fun _ => 0)))), (q2, .inl (d, (24, .inl (fun _ => 0)))), (q3, .inl (d, 24, .inl F24)), (q4, .inl (d, (24, .inl (fun _ => 0)))), (q5, .inl (d, (25, .inl (fun _ => 0)))), (q6, .inl (d, (24, .inl (fun _ => 0)))), (q7, .inl (d, (24, .inl (fun _ => 0))))] H := hP
  have hD : va_D A [(h0, .inr (1, [.ref q1, .ref q2, .ref q3, .ref q4, .ref q5, .ref q6, .null, .null, .null, .null, .null, .null])), (q1, .inl (d, (96, .inl (fun _ => 0)))), (q2, .inl (d, (24, .inl (fun _ => 0)))), (q3, .inl (d, 24, .inl F24)), (q4, .inl (d, (24, .inl (fun _ => 0)))), (q5, .inl (d, (25, .inl (fun _ => 0)))), (q6, .inl (d, (24, .inl (fun _ => 0)))), (q7, .inl (d, (24, .inl (fun _ => 0))))] := hD
  refine W.widen (k := 7) (n := 241) (Nat.le_of_ble_eq_true rfl) (Nat.le_of_ble_eq_true rfl) ?_
  refine va_putF (ci := 1) (v := .ref q7) (ty := .array .int) (C := RX1) (T := TX1) (N := 12) hx hb hts in_X1 tyX1 tyX1_ok nmX1 hown hK hP hD hS 0 rfl rfl 6 (by decide) (hts _ q191) (fun _ h9 => h9) rfl hin rfl (by decide +kernel) rfl rfl (Nat.le_of_ble_eq_true rfl) dX1_init_191 (fun H locs hP hD hS => ?_)
  have hP : va_P D vwCl [(h0, .inr (1, [.ref q1, .ref q2, .ref q3, .ref q4, .ref q5, .ref q6, .ref q7, .null, .null, .null, .null, .null])), (q1, .inl (d, (96, .inl (fun _ => 0)))), (q2, .inl (d, (24, .inl (fun _ => 0)))), (q3, .inl (d, 24, .inl F24)), (q4, .inl (d, (24, .inl (fun _ => 0)))), (q5, .inl (d, (25, .inl (fun _ => 0)))), (q6, .inl (d, (24, .inl (fun _ => 0)))), (q7, .inl (d, (24, .inl (fun _ => 0))))] H := hP
  have hD : va_D A [(h0, .inr (1, [.ref q1, .ref q2, .ref q3, .ref q4, .ref q5, .ref q6, .ref q7, .null, .null, .null, .null, .null])), (q1, .inl (d, (96, .inl (fun _ => 0)))), (q2, .inl (d, (24, .inl (fun _ => 0)))), (q3, .inl (d, 24, .inl F24)), (q4, .inl (d, (24, .inl (fun _ => 0)))), (q5, .inl (d, (25, .inl (fun _ => 0)))), (q6, .inl (d, (24, .inl (fun _ => 0)))), (q7, .inl (d, (24, .inl (fun _ => 0))))] := hD
  refine lv_aload_n hx hb dX1_init_194 rfl (lv_at hl 0 rfl) ?_
  refine lv_bipush (v := nI 24) hx hb dX1_init_195 (by decide) ?_
  refine va_newa (atype := .int) (ty := .int) (a0 := (24, .inl (fun _ => 0))) hx hb (hts _ q79) rfl hK hP hD hS hA (fun _ => rfl) (by decide) (N' := 24) (by decide) (by decide) (Nat.le_of_ble_eq_true rfl) (Nat.le_of_ble_eq_true rfl) dX1_init_197 (fun q8 cA H hK1 hP hD hS => ?_)
  obtain rfl := ka_eq hK1
  have hP : va_P D vwCl [(h0, .inr (1, [.ref q1, .ref q2, .ref q3, .ref q4, .ref q5, .ref q6, .ref q7, .null, .null, .null, .null, .null])), (q1, .inl (d, (96, .inl (fun _ => 0)))), (q2, .inl (d, (24, .inl (fun _ => 0)))), (q3, .inl (d, 24, .inl F24)), (q4, .inl (d, (24, .inl (fun _ => 0)))), (q5, .inl (d, (25, .inl (fun _ => 0)))), (q6, .inl (d, (24, .inl (fun _ => 0)))), (q7, .inl (d, (24, .inl (fun _ => 0)))), (q8, .inl (d, (24, .inl (fun _ => 0))))] H := hP
  have hD : va_D A [(h0, .inr (1, [.ref q1, .ref q2, .ref q3, .ref q4, .ref q5, .ref q6, .ref q7, .null, .null, .null, .null, .null])), (q1, .inl (d, (96, .inl (fun _ => 0)))), (q2, .inl (d, (24, .inl (fun _ => 0)))), (q3, .inl (d, 24, .inl F24)), (q4, .inl (d, (24, .inl (fun _ => 0)))), (q5, .inl (d, (25, .inl (fun _ => 0)))), (q6, .inl (d, (24, .inl (fun _ => 0)))), (q7, .inl (d, (24, .inl (fun _ => 0)))), (q8, .inl (d, (24, .inl (fun _ => 0))))] := hD
  refine W.widen (k := 8) (n := 265) (Nat.le_of_ble_eq_true rfl) (Nat.le_of_ble_eq_true rfl) ?_
  refine va_putF (ci := 1) (v := .ref q8) (ty := .array .int) (C := RX1) (T := TX1) (N := 12) hx hb hts in_X1 tyX1 tyX1_ok nmX1 hown hK hP hD hS 0 rfl rfl 7 (by decide) (hts _ q192) (fun _ h9 => h9) rfl hin rfl (by decide +kernel) rfl rfl (Nat.le_of_ble_eq_true rfl) dX1_init_199 (fun H locs hP hD hS => ?_)
  have hP : va_P D vwCl [(h0, .inr (1, [.ref q1, .ref q2, .ref q3, .ref q4, .ref q5, .ref q6, .ref q7, .ref q8, .null, .null, .null, .null])), (q1, .inl (d, (96, .inl (fun _ => 0)))), (q2, .inl (d, (24, .inl (fun _ => 0)))), (q3, .inl (d, 24, .inl F24)), (q4, .inl (d, (24, .inl (fun _ => 0)))), (q5, .inl (d, (25, .inl (fun _ => 0)))), (q6, .inl (d, (24, .inl (fun _ => 0)))), (q7, .inl (d, (24, .inl (fun _ => 0)))), (q8, .inl (d, (24, .inl (fun _ => 0))))] H := hP
  have hD : va_D A [(h0, .inr (1, [.ref q1, .ref q2, .ref q3, .ref q4, .ref q5, .ref q6, .ref q7, .ref q8, .null, .null, .null, .null])), (q1, .inl (d, (96, .inl (fun _ => 0)))), (q2, .inl (d, (24, .inl (fun _ => 0)))), (q3, .inl (d, 24, .inl F24)), (q4, .inl (d, (24, .inl (fun _ => 0)))), (q5, .inl (d, (25, .inl (fun _ => 0)))), (q6, .inl (d, (24, .inl (fun _ => 0)))), (q7, .inl (d, (24, .inl (fun _ => 0)))), (q8, .inl (d, (24, .inl (fun _ => 0))))] := hD
  refine lv_aload_n hx hb dX1_init_202 rfl (lv_at hl 0 rfl) ?_
  refine lv_bipush (v := nI 25) hx hb dX1_init_203 (by decide) ?_
  refine va_newa (atype := .int) (ty := .int) (a0 := (25, .inl (fun _ => 0))) hx hb (hts _ q79) rfl hK hP hD hS hA (fun _ => rfl) (by decide) (N' := 25) (by decide) (by decide) (Nat.le_of_ble_eq_true rfl) (Nat.le_of_ble_eq_true rfl) dX1_init_205 (fun q9 cA H hK1 hP hD hS => ?_)
  obtain rfl := ka_eq hK1
  have hP : va_P D vwCl [(h0, .inr (1, [.ref q1, .ref q2, .ref q3, .ref q4, .ref q5, .ref q6, .ref q7, .ref q8, .null, .null, .null, .null])), (q1, .inl (d, (96, .inl (fun _ => 0)))), (q2, .inl (d, (24, .inl (fun _ => 0)))), (q3, .inl (d, 24, .inl F24)), (q4, .inl (d, (24, .inl (fun _ => 0)))), (q5, .inl (d, (25, .inl (fun _ => 0)))), (q6, .inl (d, (24, .inl (fun _ => 0)))), (q7, .inl (d, (24, .inl (fun _ => 0)))), (q8, .inl (d, (24, .inl (fun _ => 0)))), (q9, .inl (d, (25, .inl (fun _ => 0))))] H := hP
  have hD : va_D A [(h0, .inr (1, [.ref q1, .ref q2, .ref q3, .ref q4, .ref q5, .ref q6, .ref q7, .ref q8, .null, .null, .null, .null])), (q1, .inl (d, (96, .inl (fun _ => 0)))), (q2, .inl (d, (24, .inl (fun _ => 0)))), (q3, .inl (d, 24, .inl F24)), (q4, .inl (d, (24, .inl (fun _ => 0)))), (q5, .inl (d, (25, .inl (fun _ => 0)))), (q6, .inl (d, (24, .inl (fun _ => 0)))), (q7, .inl (d, (24, .inl (fun _ => 0)))), (q8, .inl (d, (24, .inl (fun _ => 0)))), (q9, .inl (d, (25, .inl (fun _ => 0))))] := hD
  refine W.widen (k := 9) (n := 290) (Nat.le_of_ble_eq_true rfl) (Nat.le_of_ble_eq_true rfl) ?_
  refine va_putF (ci := 1) (v := .ref q9) (ty := .array .int) (C := RX1) (T := TX1) (N := 12) hx hb hts in_X1 tyX1 tyX1_ok nmX1 hown hK hP hD hS 0 rfl rfl 8 (by decide) (hts _ q193) (fun _ h9 => h9) rfl hin rfl (by decide +kernel) rfl rfl (Nat.le_of_ble_eq_true rfl) dX1_init_207 (fun H locs hP hD hS => ?_)
  have hP : va_P D vwCl [(h0, .inr (1, [.ref q1, .ref q2, .ref q3, .ref q4, .ref q5, .ref q6, .ref q7, .ref q8, .ref q9, .null, .null, .null])), (q1, .inl (d, (96, .inl (fun _ => 0)))), (q2, .inl (d, (24, .inl (fun _ => 0)))), (q3, .inl (d, 24, .inl F24)), (q4, .inl (d, (24, .inl (fun _ => 0)))), (q5, .inl (d, (25, .inl (fun _ => 0)))), (q6, .inl (d, (24, .inl (fun _ => 0)))), (q7, .inl (d, (24, .inl (fun _ => 0)))), (q8, .inl (d, (24, .inl (fun _ => 0)))), (q9, .inl (d, (25, .inl (fun _ => 0))))] H := hP
  have hD : va_D A [(h0, .inr (1, [.ref q1, .ref q2, .ref q3, .ref q4, .ref q5, .ref q6, .ref q7, .ref q8, .ref q9, .null, .null, .null])), (q1, .inl (d, (96, .inl (fun _ => 0)))), (q2, .inl (d, (24, .inl (fun _ => 0)))), (q3, .inl (d, 24, .inl F24)), (q4, .inl (d, (24, .inl (fun _ => 0)))), (q5, .inl (d, (25, .inl (fun _ => 0)))), (q6, .inl (d, (24, .inl (fun _ => 0)))), (q7, .inl (d, (24, .inl (fun _ => 0)))), (q8, .inl (d, (24, .inl (fun _ => 0)))), (q9, .inl (d, (25, .inl (fun _ => 0))))] := hD
  refine lv_aload_n hx hb dX1_init_210 rfl (lv_at hl 0 rfl) ?_
  refine lv_bipush (v := nI 25) hx hb dX1_init_211 (by decide) ?_
  refine va_newa (atype := .int) (ty := .int) (a0 := (25, .inl (fun _ => 0))) hx hb (hts _ q79) rfl hK hP hD hS hA (fun _ => rfl) (by decide) (N' := 25) (by decide) (by decide) (Nat.le_of_ble_eq_true rfl) (Nat.le_of_ble_eq_true rfl) dX1_init_213 (fun q10 cA H hK1 hP hD hS => ?_)
  obtain rfl := ka_eq hK1
  have hP : va_P D vwCl [(h0, .inr (1, [.ref q1, .ref q2, .ref q3, .ref q4, .ref q5, .ref q6, .ref q7, .ref q8, .ref q9, .null, .null, .null])), (q1, .inl (d, (96, .inl (fun _ => 0)))), (q2, .inl (d, (24, .inl (fun _ => 0)))), (q3, .inl (d, 24, .inl F24)), (q4, .inl (d, (24, .inl (fun _ => 0)))), (q5, .inl (d, (25, .inl (fun _ => 0)))), (q6, .inl (d, (24, .inl (fun _ => 0)))), (q7, .inl (d, (24, .inl (fun _ => 0)))), (q8, .inl (d, (24, .inl (fun _ => 0)))), (q9, .inl (d, (25, .inl (fun _ => 0)))), (q10, .inl (d, (25, .inl (fun _ => 0))))] H := hP
  have hD : va_D A [(h0, .inr (1, [.ref q1, .ref q2, .ref q3, .ref q4, .ref q5, .ref q6, .ref q7, .ref q8, .ref q9, .null, .null, .null])), (q1, .inl (d, (96, .inl (fun _ => 0)))), (q2, .inl (d, (24, .inl (fun _ => 0)))), (q3, .inl (d, 24, .inl F24)), (q4, .inl (d, (24, .inl (fun _ => 0)))), (q5, .inl (d, (25, .inl (fun _ => 0)))), (q6, .inl (d, (24, .inl (fun _ => 0)))), (q7, .inl (d, (24, .inl (fun _ => 0)))), (q8, .inl (d, (24, .inl (fun _ => 0)))), (q9, .inl (d, (25, .inl (fun _ => 0)))), (q10, .inl (d, (25, .inl (fun _ => 0))))] := hD
  refine W.widen (k := 10) (n := 315) (Nat.le_of_ble_eq_true rfl) (Nat.le_of_ble_eq_true rfl) ?_
  refine va_putF (ci := 1) (v := .ref q10) (ty := .array .int) (C := RX1) (T := TX1) (N := 12) hx hb hts in_X1 tyX1 tyX1_ok nmX1 hown hK hP hD hS 0 rfl rfl 9 (by decide) (hts _ q194) (fun _ h9 => h9) rfl hin rfl (by decide +kernel) rfl rfl (Nat.le_of_ble_eq_true rfl) dX1_init_215 (fun H locs hP hD hS => ?_)
  have hP : va_P D vwCl [(h0, .inr (1, [.ref q1, .ref q2, .ref q3, .ref q4, .ref q5, .ref q6, .ref q7, .ref q8, .ref q9, .ref q10, .null, .null])), (q1, .inl (d, (96, .inl (fun _ => 0)))), (q2, .inl (d, (24, .inl (fun _ => 0)))), (q3, .inl (d, 24, .inl F24)), (q4, .inl (d, (24, .inl (fun _ => 0)))), (q5, .inl (d, (25, .inl (fun _ => 0)))), (q6, .inl (d, (24, .inl (fun _ => 0)))), (q7, .inl (d, (24, .inl (fun _ => 0)))), (q8, .inl (d, (24, .inl (fun _ => 0)))), (q9, .inl (d, (25, .inl (fun _ => 0)))), (q10, .inl (d, (25, .inl (fun _ => 0))))] H := hP
  have hD : va_D A [(h0, .inr (1, [.ref q1, .ref q2, .ref q3, .ref q4, .ref q5, .ref q6, .ref q7, .ref q8, .ref q9, .ref q10, .null, .null])), (q1, .inl (d, (96, .inl (fun _ => 0)))), (q2, .inl (d, (24, .inl (fun _ => 0)))), (q3, .inl (d, 24, .inl F24)), (q4, .inl (d, (24, .inl (fun _ => 0)))), (q5, .inl (d, (25, .inl (fun _ => 0)))), (q6, .inl (d, (24, .inl (fun _ => 0)))), (q7, .inl (d, (24, .inl (fun _ => 0)))), (q8, .inl (d, (24, .inl (fun _ => 0)))), (q9, .inl (d, (25, .inl (fun _ => 0)))), (q10, .inl (d, (25, .inl (fun _ => 0))))] := hD
  refine lv_aload_n hx hb dX1_init_218 rfl (lv_at hl 0 rfl) ?_
  refine lv_bipush (v := nI 25) hx hb dX1_init_219 (by decide) ?_
  refine va_newa (atype := .int) (ty := .int) (a0 := (25, .inl (fun _ => 0))) hx hb (hts _ q79) rfl hK hP hD hS hA (fun _ => rfl) (by decide) (N' := 25) (by decide) (by decide) (Nat.le_of_ble_eq_true rfl) (Nat.le_of_ble_eq_true rfl) dX1_init_221 (fun q11 cA H hK1 hP hD hS => ?_)
  obtain rfl := ka_eq hK1
  have hP : va_P D vwCl [(h0, .inr (1, [.ref q1, .ref q2, .ref q3, .ref q4, .ref q5, .ref q6, .ref q7, .ref q8, .ref q9, .ref q10, .null, .null])), (q1, .inl (d, (96, .inl (fun _ => 0)))), (q2, .inl (d, (24, .inl (fun _ => 0)))), (q3, .inl (d, 24, .inl F24)), (q4, .inl (d, (24, .inl (fun _ => 0)))), (q5, .inl (d, (25, .inl (fun _ => 0)))), (q6, .inl (d, (24, .inl (fun _ => 0)))), (q7, .inl (d, (24, .inl (fun _ => 0)))), (q8, .inl (d, (24, .inl (fun _ => 0)))), (q9, .inl (d, (25, .inl (fun _ => 0)))), (q10, .inl (d, (25, .inl (fun _ => 0)))), (q11, .inl (d, (25, .inl (fun _ => 0))))] H := hP
  have hD : va_D A [(h0, .inr (1, [.ref q1, .ref q2, .ref q3, .ref q4, .ref q5, .ref q6, .ref q7, .ref q8, .ref q9, .ref q10, .null, .null])), (q1, .inl (d, (96, .inl (fun _ => 0)))), (q2, .inl (d, (24, .inl (fun _ => 0)))), (q3, .inl (d, 24, .inl F24)), (q4, .inl (d, (24, .inl (fun _ => 0)))), (q5, .inl (d, (25, .inl (fun _ => 0)))), (q6, .inl (d, (24, .inl (fun _ => 0)))), (q7, .inl (d, (24, .inl (fun _ => 0)))), (q8, .inl (d, (24, .inl (fun _ => 0)))), (q9, .inl (d, (25, .inl (fun _ => 0)))), (q10, .inl (d, (25, .inl (fun _ => 0)))), (q11, .inl (d, (25, .inl (fun _ => 0))))] := hD
  refine W.widen (k := 11) (n := 340) (Nat.le_of_ble_eq_true rfl) (Nat.le_of_ble_eq_true rfl) ?_
  refine va_putF (ci := 1) (v := .ref q11) (ty := .array .int) (C := RX1) (T := TX1) (N := 12) hx hb hts in_X1 tyX1 tyX1_ok nmX1 hown hK hP hD hS 0 rfl rfl 10 (by decide) (hts _ q195) (fun _ h9 => h9) rfl hin rfl (by decide +kernel) rfl rfl (Nat.le_of_ble_eq_true rfl) dX1_init_223 (fun H locs hP hD hS => ?_)
  have hP : va_P D vwCl [(h0, .inr (1, [.ref q1, .ref q2, .ref q3, .ref q4, .ref q5, .ref q6, .ref q7, .ref q8, .ref q9, .ref q10, .ref q11, .null])), (q1, .inl (d, (96, .inl (fun _ => 0)))), (q2, .inl (d, (24, .inl (fun _ => 0)))), (q3, .inl (d, 24, .inl F24)), (q4, .inl (d, (24, .inl (fun _ => 0)))), (q5, .inl (d, (25, .inl (fun _ => 0)))), (q6, .inl (d, (24, .inl (fun _ => 0)))), (q7, .inl (d, (24, .inl (fun _ => 0)))), (q8, .inl (d, (24, .inl (fun _ => 0)))), (q9, .inl (d, (25, .inl (fun _ => 0)))), (q10, .inl (d, (25, .inl (fun _ => 0)))), (q11, .inl (d, (25, .inl (fun _ => 0))))] H := hP
  have hD : va_D A [(h0, .inr (1, [.ref q1, .ref q2, .ref q3, .ref q4, .ref q5, .ref q6, .ref q7, .ref q8, .ref q9, .ref q10, .ref q11, .null])), (q1, .inl (d, (96, .inl (fun _ => 0)))), (q2, .inl (d, (24, .inl (fun _ => 0)))), (q3, .inl (d, 24, .inl F24)), (q4, .inl (d, (24, .inl (fun _ => 0)))), (q5, .inl (d, (25, .inl (fun _ => 0)))), (q6, .inl (d, (24, .inl (fun _ => 0)))), (q7, .inl (d, (24, .inl (fun _ => 0)))), (q8, .inl (d, (24, .inl (fun _ => 0)))), (q9, .inl (d, (25, .inl (fun _ => 0)))), (q10, .inl (d, (25, .inl (fun _ => 0)))), (q11, .inl (d, (25, .inl (fun _ => 0))))] := hD
  refine lv_aload_n hx hb dX1_init_226 rfl (lv_at hl 0 rfl) ?_
  refine lv_bipush (v := nI 25) hx hb dX1_init_227 (by decide) ?_
  refine va_newa (atype := .int) (ty := .int) (a0 := (25, .inl (fun _ => 0))) hx hb (hts _ q79) rfl hK hP hD hS hA (fun _ => rfl) (by decide) (N' := 25) (by decide) (by decide) (Nat.le_of_ble_eq_true rfl) (Nat.le_of_ble_eq_true rfl) dX1_init_229 (fun q12 cA H hK1 hP hD hS => ?_)
  obtain rfl := ka_eq hK1
  have hP : va_P D vwCl [(h0, .inr (1, [.ref q1, .ref q2, .ref q3, .ref q4, .ref q5, .ref q6, .ref q7, .ref q8, .ref q9, .ref q10, .ref q11, .null])), (q1, .inl (d, (96, .inl (fun _ => 0)))), (q2, .inl (d, (24, .inl (fun _ => 0)))), (q3, .inl (d, 24, .inl F24)), (q4, .inl (d, (24, .inl (fun _ => 0)))), (q5, .inl (d, (25, .inl (fun _ => 0)))), (q6, .inl (d, (24, .inl (fun _ => 0)))), (q7, .inl (d, (24, .inl (fun _ => 0)))), (q8, .inl (d, (24, .inl (fun _ => 0)))), (q9, .inl (d, (25, .inl (fun _ => 0)))), (q10, .inl (d, (25, .inl (fun _ => 0)))), (q11, .inl (d, (25, .inl (fun _ => 0)))), (q12, .inl (d, (25, .inl (fun _ => 0))))] H := hP
  have hD : va_D A [(h0, .inr (1, [.ref q1, .ref q2, .ref q3, .ref q4, .ref q5, .ref q6, .ref q7, .ref q8, .ref q9, .ref q10, .ref q11, .null])), (q1, .inl (d, (96, .inl (fun _ => 0)))), (q2, .inl (d, (24, .inl (fun _ => 0)))), (q3, .inl (d, 24, .inl F24)), (q4, .inl (d, (24, .inl (fun _ => 0)))), (q5, .inl (d, (25, .inl (fun _ => 0)))), (q6, .inl (d, (24, .inl (fun _ => 0)))), (q7, .inl (d, (24, .inl (fun _ => 0)))), (q8, .inl (d, (24, .inl (fun _ => 0)))), (q9, .inl (d, (25, .inl (fun _ => 0)))), (q10, .inl (d, (25, .inl (fun _ => 0)))), (q11, .inl (d, (25, .inl (fun _ => 0)))), (q12, .inl (d, (25, .inl (fun _ => 0))))] := hD
  refine W.widen (k := 12) (n := 365) (Nat.le_of_ble_eq_true rfl) (Nat.le_of_ble_eq_true rfl) ?_
  refine va_putF (ci := 1) (v := .ref q12) (ty := .array .int) (C := RX1) (T := TX1) (N := 12) hx hb hts in_X1 tyX1 tyX1_ok nmX1 hown hK hP hD hS 0 rfl rfl 11 (by decide) (hts _ q196) (fun _ h9 => h9) rfl hin rfl (by decide +kernel) rfl rfl (Nat.le_of_ble_eq_true rfl) dX1_init_231 (fun H locs hP hD hS => ?_)
  have hP : va_P D vwCl [(h0, .inr (1, [.ref q1, .ref q2, .ref q3, .ref q4, .ref q5, .ref q6, .ref q7, .ref q8, .ref q9, .ref q10, .ref q11, .ref q12])), (q1, .inl (d, (96, .inl (fun _ => 0)))), (q2, .inl (d, (24, .inl (fun _ => 0)))), (q3, .inl (d, 24, .inl F24)), (q4, .inl (d, (24, .inl (fun _ => 0)))), (q5, .inl (d, (25, .inl (fun _ => 0)))), (q6, .inl (d, (24, .inl (fun _ => 0)))), (q7, .inl (d, (24, .inl (fun _ => 0)))), (q8, .inl (d, (24, .inl (fun _ => 0)))), (q9, .inl (d, (25, .inl (fun _ => 0)))), (q10, .inl (d, (25, .inl (fun _ => 0)))), (q11, .inl (d, (25, .inl (fun _ => 0)))), (q12, .inl (d, (25, .inl (fun _ => 0))))] H := hP
  have hD : va_D A [(h0, .inr (1, [.ref q1, .ref q2, .ref q3, .ref q4, .ref q5, .ref q6, .ref q7, .ref q8, .ref q9, .ref q10, .ref q11, .ref q12])), (q1, .inl (d, (96, .inl (fun _ => 0)))), (q2, .inl (d, (24, .inl (fun _ => 0)))), (q3, .inl (d, 24, .inl F24)), (q4, .inl (d, (24, .inl (fun _ => 0)))), (q5, .inl (d, (25, .inl (fun _ => 0)))), (q6, .inl (d, (24, .inl (fun _ => 0)))), (q7, .inl (d, (24, .inl (fun _ => 0)))), (q8, .inl (d, (24, .inl (fun _ => 0)))), (q9, .inl (d, (25, .inl (fun _ => 0)))), (q10, .inl (d, (25, .inl (fun _ => 0)))), (q11, .inl (d, (25, .inl (fun _ => 0)))), (q12, .inl (d, (25, .inl (fun _ => 0))))] := hD
  subst hF1
  subst hF2
  subst hF3
  subst hF4
  subst hF5
  subst hF6
  subst hF7
  subst hF8
  subst hF9
  subst hF10
  subst hF11
  subst hF12
  subst hF13
  subst hF14
  subst hF15
  subst hF16
  subst hF17
  subst hF18
  subst hF19
  subst hF20
  subst hF21
  subst hF22
  subst hF23
  subst hF24
  have hpr : Rd 65536 24 (upd (upd (upd (upd (upd (upd (upd (upd (upd (upd (upd (upd (upd (upd (upd (upd (upd (upd (upd (upd (upd (upd (upd (upd (fun _ => 0) (nI 0).toNatClampNeg 65535) (nI 1).toNatClampNeg 65535) (nI 2).toNatClampNeg (nI 0)) (nI 3).toNatClampNeg (nI 0)) (nI 4).toNatClampNeg (nI 0)) (nI 5).toNatClampNeg (nI 0)) (nI 6).toNatClampNeg 65535) (nI 7).toNatClampNeg 65535) (nI 8).toNatClampNeg 65534) (nI 9).toNatClampNeg 65535) (nI 10).toNatClampNeg 65535) (nI 11).toNatClampNeg 65535) (nI 12).toNatClampNeg 65535) (nI 13).toNatClampNeg 65535) (nI 14).toNatClampNeg 65535) (nI 15).toNatClampNeg 65535) (nI 16).toNatClampNeg 65535) (nI 17).toNatClampNeg 65535) (nI 18).toNatClampNeg 65535) (nI 19).toNatClampNeg 65535) (nI 20).toNatClampNeg 65535) (nI 21).toNatClampNeg 65535) (nI 22).toNatClampNeg 65535) (nI 23).toNatClampNeg 65535) PP := by unfold Rd; decide +kernel
  have hP : va_P D vwCl (gw 1 d dL (fun k => [h0, q1, q2, q3, q4, q5, q6, q7, q8, q9, q10, q11, q12].getD k 0) (fun i => if i = 3 then (upd (upd (upd (upd (upd (upd (upd (upd (upd (upd (upd (upd (upd (upd (upd (upd (upd (upd (upd (upd (upd (upd (upd (upd (fun _ => 0) (nI 0).toNatClampNeg 65535) (nI 1).toNatClampNeg 65535) (nI 2).toNatClampNeg (nI 0)) (nI 3).toNatClampNeg (nI 0)) (nI 4).toNatClampNeg (nI 0)) (nI 5).toNatClampNeg (nI 0)) (nI 6).toNatClampNeg 65535) (nI 7).toNatClampNeg 65535) (nI 8).toNatClampNeg 65534) (nI 9).toNatClampNeg 65535) (nI 10).toNatClampNeg 65535) (nI 11).toNatClampNeg 65535) (nI 12).toNatClampNeg 65535) (nI 13).toNatClampNeg 65535) (nI 14).toNatClampNeg 65535) (nI 15).toNatClampNeg 65535) (nI 16).toNatClampNeg 65535) (nI 17).toNatClampNeg 65535) (nI 18).toNatClampNeg 65535) (nI 19).toNatClampNeg 65535) (nI 20).toNatClampNeg 65535) (nI 21).toNatClampNeg 65535) (nI 22).toNatClampNeg 65535) (nI 23).toNatClampNeg 65535) else fun _ => 0) (fun _ => 0)) H := hP
  have hD : va_D A (gw 1 d dL (fun k => [h0, q1, q2, q3, q4, q5, q6, q7, q8, q9, q10, q11, q12].getD k 0) (fun i => if i = 3 then (upd (upd (upd (upd (upd (upd (upd (upd (upd (upd (upd (upd (upd (upd (upd (upd (upd (upd (upd (upd (upd (upd (upd (upd (fun _ => 0) (nI 0).toNatClampNeg 65535) (nI 1).toNatClampNeg 65535) (nI 2).toNatClampNeg (nI 0)) (nI 3).toNatClampNeg (nI 0)) (nI 4).toNatClampNeg (nI 0)) (nI 5).toNatClampNeg (nI 0)) (nI 6).toNatClampNeg 65535) (nI 7).toNatClampNeg 65535) (nI 8).toNatClampNeg 65534) (nI 9).toNatClampNeg 65535) (nI 10).toNatClampNeg 65535) (nI 11).toNatClampNeg 65535) (nI 12).toNatClampNeg 65535) (nI 13).toNatClampNeg 65535) (nI 14).toNatClampNeg 65535) (nI 15).toNatClampNeg 65535) (nI 16).toNatClampNeg 65535) (nI 17).toNatClampNeg 65535) (nI 18).toNatClampNeg 65535) (nI 19).toNatClampNeg 65535) (nI 20).toNatClampNeg 65535) (nI 21).toNatClampNeg 65535) (nI 22).toNatClampNeg 65535) (nI 23).toNatClampNeg 65535) else fun _ => 0) (fun _ => 0)) := hD
  refine W.vret hx hb hr (fun t ht hW => ⟨⟨((fun k => [h0, q1, q2, q3, q4, q5, q6, q7, q8, q9, q10, q11, q12].getD k 0), (fun i => if i = 3 then (upd (upd (upd (upd (upd (upd (upd (upd (upd (upd (upd (upd (upd (upd (upd (upd (upd (upd (upd (upd (upd (upd (upd (upd (fun _ => 0) (nI 0).toNatClampNeg 65535) (nI 1).toNatClampNeg 65535) (nI 2).toNatClampNeg (nI 0)) (nI 3).toNatClampNeg (nI 0)) (nI 4).toNatClampNeg (nI 0)) (nI 5).toNatClampNeg (nI 0)) (nI 6).toNatClampNeg 65535) (nI 7).toNatClampNeg 65535) (nI 8).toNatClampNeg 65534) (nI 9).toNatClampNeg 65535) (nI 10).toNatClampNeg 65535) (nI 11).toNatClampNeg 65535) (nI 12).toNatClampNeg 65535) (nI 13).toNatClampNeg 65535) (nI 14).toNatClampNeg 65535) (nI 15).toNatClampNeg 65535) (nI 16).toNatClampNeg 65535) (nI 17).toNatClampNeg 65535) (nI 18).toNatClampNeg 65535) (nI 19).toNatClampNeg 65535) (nI 20).toNatClampNeg 65535) (nI 21).toNatClampNeg 65535) (nI 22).toNatClampNeg 65535) (nI 23).toNatClampNeg 65535) else fun _ => 0), fun _ => 0), rfl, ⟨rfl, fun r hr k hk => ?_, ⟨fun k hk => ?_, by decide⟩, hpr⟩, by rw [ht]; exact hP, va_K.moved hW.alike hK, hD⟩, hS.F ht⟩) hS.2.2 dX1_init_234
  · rw [dgt_0]; rfl
  · rw [dgt_0]; rfl
end Mni
end
section
set_option maxRecDepth 100000
/-! the law's own entry -/
abbrev cL_law : ByteArray := code

theorem q17 : (Jvm.Cond.initialized "Prime384Law") ∈ lw_all := lw_g (lw_at lw_m1 0 rfl) rfl
theorem q20 : (Jvm.Cond.classLink "Prime384Law" (7 : Nat) "Prime384") ∈ lw_all := lw_g (lw_at lw_m1 3 rfl) rfl
theorem q22 : (Jvm.Cond.methodLink "Prime384Law" (9 : Nat) ({ cls := "Prime384", name := "<init>", desc := "()V" } : Jvm.MethodName)) ∈ lw_all := lw_g (lw_at lw_m1 5 rfl) rfl
theorem q81 : (Jvm.Cond.methodLink "Prime384Law" (13 : Nat) ({ cls := "Prime384", name := "line", desc := "(IIIII)V" } : Jvm.MethodName)) ∈ lw_all := lw_g (lw_at lw_m1 64 rfl) rfl
theorem q86 : (Jvm.Cond.methodLink "Prime384Law" (18 : Nat) ({ cls := "Prime384", name := "load", desc := "(I)Z" } : Jvm.MethodName)) ∈ lw_all := lw_g (lw_at lw_m1 69 rfl) rfl
theorem q94 : (Jvm.Cond.methodLink "Prime384Law" (23 : Nat) ({ cls := "Prime384", name := "word", desc := "(II)I" } : Jvm.MethodName)) ∈ lw_all := lw_g (lw_at lw_m1 77 rfl) rfl
theorem q98 : (Jvm.Cond.methodLink "Prime384Law" (28 : Nat) ({ cls := "Prime384", name := "add", desc := "(III)V" } : Jvm.MethodName)) ∈ lw_all := lw_g (lw_at lw_m1 81 rfl) rfl
theorem q106 : (Jvm.Cond.methodLink "Prime384Law" (33 : Nat) ({ cls := "Prime384", name := "subtract", desc := "(III)V" } : Jvm.MethodName)) ∈ lw_all := lw_g (lw_at lw_m1 89 rfl) rfl
theorem q114 : (Jvm.Cond.methodLink "Prime384Law" (37 : Nat) ({ cls := "Prime384", name := "multiply", desc := "(III)V" } : Jvm.MethodName)) ∈ lw_all := lw_g (lw_at lw_m1 97 rfl) rfl
theorem q126 : (Jvm.Cond.methodLink "Prime384Law" (41 : Nat) ({ cls := "Prime384", name := "square", desc := "(II)V" } : Jvm.MethodName)) ∈ lw_all := lw_g (lw_at lw_m1 109 rfl) rfl
theorem q131 : (Jvm.Cond.methodLink "Prime384Law" (46 : Nat) ({ cls := "Prime384", name := "squares", desc := "(III)V" } : Jvm.MethodName)) ∈ lw_all := lw_g (lw_at lw_m1 114 rfl) rfl
theorem q135 : (Jvm.Cond.methodLink "Prime384Law" (50 : Nat) ({ cls := "Prime384", name := "twice", desc := "(II)V" } : Jvm.MethodName)) ∈ lw_all := lw_g (lw_at lw_m1 118 rfl) rfl
theorem q140 : (Jvm.Cond.methodLink "Prime384Law" (54 : Nat) ({ cls := "Prime384", name := "halve", desc := "(II)V" } : Jvm.MethodName)) ∈ lw_all := lw_g (lw_at lw_m1 123 rfl) rfl
theorem q148 : (Jvm.Cond.methodLink "Prime384Law" (58 : Nat) ({ cls := "Prime384", name := "negate", desc := "(II)V" } : Jvm.MethodName)) ∈ lw_all := lw_g (lw_at lw_m1 131 rfl) rfl
theorem q152 : (Jvm.Cond.methodLink "Prime384Law" (62 : Nat) ({ cls := "Prime384", name := "invert", desc := "(II)Z" } : Jvm.MethodName)) ∈ lw_all := lw_g (lw_at lw_m1 135 rfl) rfl
theorem q169 : (Jvm.Cond.methodLink "Prime384Law" (67 : Nat) ({ cls := "Prime384", name := "zero", desc := "(I)Z" } : Jvm.MethodName)) ∈ lw_all := lw_g (lw_at lw_m1 152 rfl) rfl
theorem q173 : (Jvm.Cond.methodLink "Prime384Law" (71 : Nat) ({ cls := "Prime384", name := "carry", desc := "(II)V" } : Jvm.MethodName)) ∈ lw_all := lw_g (lw_at lw_m1 156 rfl) rfl
theorem q177 : (Jvm.Cond.classLink "Prime384Law" (10 : Nat) "Prime384Model") ∈ lw_all := lw_g (lw_at lw_m1 160 rfl) rfl
theorem q179 : (Jvm.Cond.methodLink "Prime384Law" (12 : Nat) ({ cls := "Prime384Model", name := "<init>", desc := "()V" } : Jvm.MethodName)) ∈ lw_all := lw_g (lw_at lw_m1 162 rfl) rfl
theorem q222 : (Jvm.Cond.methodLink "Prime384Law" (17 : Nat) ({ cls := "Prime384Model", name := "line", desc := "(IIIII)V" } : Jvm.MethodName)) ∈ lw_all := lw_g (lw_at lw_m1 205 rfl) rfl
theorem q227 : (Jvm.Cond.methodLink "Prime384Law" (22 : Nat) ({ cls := "Prime384Model", name := "load", desc := "(I)Z" } : Jvm.MethodName)) ∈ lw_all := lw_g (lw_at lw_m1 210 rfl) rfl
theorem q239 : (Jvm.Cond.methodLink "Prime384Law" (27 : Nat) ({ cls := "Prime384Model", name := "word", desc := "(II)I" } : Jvm.MethodName)) ∈ lw_all := lw_g (lw_at lw_m1 222 rfl) rfl
theorem q243 : (Jvm.Cond.methodLink "Prime384Law" (32 : Nat) ({ cls := "Prime384Model", name := "add", desc := "(III)V" } : Jvm.MethodName)) ∈ lw_all := lw_g (lw_at lw_m1 226 rfl) rfl
theorem q255 : (Jvm.Cond.methodLink "Prime384Law" (36 : Nat) ({ cls := "Prime384Model", name := "subtract", desc := "(III)V" } : Jvm.MethodName)) ∈ lw_all := lw_g (lw_at lw_m1 238 rfl) rfl
theorem q267 : (Jvm.Cond.methodLink "Prime384Law" (40 : Nat) ({ cls := "Prime384Model", name := "multiply", desc := "(III)V" } : Jvm.MethodName)) ∈ lw_all := lw_g (lw_at lw_m2 10 rfl) rfl
theorem q275 : (Jvm.Cond.methodLink "Prime384Law" (45 : Nat) ({ cls := "Prime384Model", name := "square", desc := "(II)V" } : Jvm.MethodName)) ∈ lw_all := lw_g (lw_at lw_m2 18 rfl) rfl
theorem q279 : (Jvm.Cond.methodLink "Prime384Law" (49 : Nat) ({ cls := "Prime384Model", name := "squares", desc := "(III)V" } : Jvm.MethodName)) ∈ lw_all := lw_g (lw_at lw_m2 22 rfl) rfl
theorem q287 : (Jvm.Cond.methodLink "Prime384Law" (53 : Nat) ({ cls := "Prime384Model", name := "twice", desc := "(II)V" } : Jvm.MethodName)) ∈ lw_all := lw_g (lw_at lw_m2 30 rfl) rfl
theorem q291 : (Jvm.Cond.methodLink "Prime384Law" (57 : Nat) ({ cls := "Prime384Model", name := "halve", desc := "(II)V" } : Jvm.MethodName)) ∈ lw_all := lw_g (lw_at lw_m2 34 rfl) rfl
theorem q295 : (Jvm.Cond.methodLink "Prime384Law" (61 : Nat) ({ cls := "Prime384Model", name := "negate", desc := "(II)V" } : Jvm.MethodName)) ∈ lw_all := lw_g (lw_at lw_m2 38 rfl) rfl
theorem q299 : (Jvm.Cond.methodLink "Prime384Law" (66 : Nat) ({ cls := "Prime384Model", name := "invert", desc := "(II)Z" } : Jvm.MethodName)) ∈ lw_all := lw_g (lw_at lw_m2 42 rfl) rfl
theorem q319 : (Jvm.Cond.methodLink "Prime384Law" (70 : Nat) ({ cls := "Prime384Model", name := "zero", desc := "(I)Z" } : Jvm.MethodName)) ∈ lw_all := lw_g (lw_at lw_m2 62 rfl) rfl
theorem q323 : (Jvm.Cond.methodLink "Prime384Law" (74 : Nat) ({ cls := "Prime384Model", name := "carry", desc := "(II)V" } : Jvm.MethodName)) ∈ lw_all := lw_g (lw_at lw_m2 66 rfl) rfl
end
section
set_option maxRecDepth 100000
theorem dL_law_0 : decode cL_law 0 = .ok (.new 7, 3) := by decide +kernel
theorem dL_law_3 : decode cL_law 3 = .ok (.dup, 1) := by decide +kernel
theorem dL_law_4 : decode cL_law 4 = .ok (.invokespecial 9, 3) := by decide +kernel
theorem dL_law_7 : decode cL_law 7 = .ok (.astore_n 1, 1) := by decide +kernel
theorem dL_law_8 : decode cL_law 8 = .ok (.new 10, 3) := by decide +kernel
theorem dL_law_11 : decode cL_law 11 = .ok (.dup, 1) := by decide +kernel
theorem dL_law_12 : decode cL_law 12 = .ok (.invokespecial 12, 3) := by decide +kernel
theorem dL_law_15 : decode cL_law 15 = .ok (.astore_n 2, 1) := by decide +kernel
theorem dL_law_16 : decode cL_law 16 = .ok (.iconst 0, 1) := by decide +kernel
theorem dL_law_17 : decode cL_law 17 = .ok (.istore_n 3, 1) := by decide +kernel
theorem dL_law_18 : decode cL_law 18 = .ok (.iload_n 3, 1) := by decide +kernel
theorem dL_law_19 : decode cL_law 19 = .ok (.aload_n 0, 1) := by decide +kernel
theorem dL_law_20 : decode cL_law 20 = .ok (.arraylength, 1) := by decide +kernel
theorem dL_law_21 : decode cL_law 21 = .ok (.bipush 6, 2) := by decide +kernel
theorem dL_law_23 : decode cL_law 23 = .ok (.isub, 1) := by decide +kernel
theorem dL_law_24 : decode cL_law 24 = .ok (.if_icmp .gt 578, 3) := by decide +kernel
theorem dL_law_27 : decode cL_law 27 = .ok (.aload_n 0, 1) := by decide +kernel
theorem dL_law_28 : decode cL_law 28 = .ok (.iload_n 3, 1) := by decide +kernel
theorem dL_law_29 : decode cL_law 29 = .ok (.iaload, 1) := by decide +kernel
theorem dL_law_30 : decode cL_law 30 = .ok (.bipush 15, 2) := by decide +kernel
theorem dL_law_32 : decode cL_law 32 = .ok (.iand, 1) := by decide +kernel
theorem dL_law_33 : decode cL_law 33 = .ok (.tableswitch 563 0 13 #[71, 132, 155, 188, 229, 270, 311, 342, 383, 414, 445, 476, 509, 532], 71) := by decide +kernel
theorem dL_law_104 : decode cL_law 104 = .ok (.aload_n 1, 1) := by decide +kernel
theorem dL_law_105 : decode cL_law 105 = .ok (.aload_n 0, 1) := by decide +kernel
theorem dL_law_106 : decode cL_law 106 = .ok (.iload_n 3, 1) := by decide +kernel
theorem dL_law_107 : decode cL_law 107 = .ok (.iconst 1, 1) := by decide +kernel
theorem dL_law_108 : decode cL_law 108 = .ok (.iadd, 1) := by decide +kernel
theorem dL_law_109 : decode cL_law 109 = .ok (.iaload, 1) := by decide +kernel
theorem dL_law_110 : decode cL_law 110 = .ok (.aload_n 0, 1) := by decide +kernel
theorem dL_law_111 : decode cL_law 111 = .ok (.iload_n 3, 1) := by decide +kernel
theorem dL_law_112 : decode cL_law 112 = .ok (.iconst 2, 1) := by decide +kernel
theorem dL_law_113 : decode cL_law 113 = .ok (.iadd, 1) := by decide +kernel
theorem dL_law_114 : decode cL_law 114 = .ok (.iaload, 1) := by decide +kernel
theorem dL_law_115 : decode cL_law 115 = .ok (.aload_n 0, 1) := by decide +kernel
theorem dL_law_116 : decode cL_law 116 = .ok (.iload_n 3, 1) := by decide +kernel
theorem dL_law_117 : decode cL_law 117 = .ok (.iconst 3, 1) := by decide +kernel
theorem dL_law_118 : decode cL_law 118 = .ok (.iadd, 1) := by decide +kernel
theorem dL_law_119 : decode cL_law 119 = .ok (.iaload, 1) := by decide +kernel
theorem dL_law_120 : decode cL_law 120 = .ok (.aload_n 0, 1) := by decide +kernel
theorem dL_law_121 : decode cL_law 121 = .ok (.iload_n 3, 1) := by decide +kernel
theorem dL_law_122 : decode cL_law 122 = .ok (.iconst 4, 1) := by decide +kernel
theorem dL_law_123 : decode cL_law 123 = .ok (.iadd, 1) := by decide +kernel
theorem dL_law_124 : decode cL_law 124 = .ok (.iaload, 1) := by decide +kernel
theorem dL_law_125 : decode cL_law 125 = .ok (.aload_n 0, 1) := by decide +kernel
theorem dL_law_126 : decode cL_law 126 = .ok (.iload_n 3, 1) := by decide +kernel
theorem dL_law_127 : decode cL_law 127 = .ok (.iconst 5, 1) := by decide +kernel
theorem dL_law_128 : decode cL_law 128 = .ok (.iadd, 1) := by decide +kernel
theorem dL_law_129 : decode cL_law 129 = .ok (.iaload, 1) := by decide +kernel
theorem dL_law_130 : decode cL_law 130 = .ok (.invokevirtual 13, 3) := by decide +kernel
theorem dL_law_133 : decode cL_law 133 = .ok (.aload_n 2, 1) := by decide +kernel
theorem dL_law_134 : decode cL_law 134 = .ok (.aload_n 0, 1) := by decide +kernel
theorem dL_law_135 : decode cL_law 135 = .ok (.iload_n 3, 1) := by decide +kernel
theorem dL_law_136 : decode cL_law 136 = .ok (.iconst 1, 1) := by decide +kernel
theorem dL_law_137 : decode cL_law 137 = .ok (.iadd, 1) := by decide +kernel
theorem dL_law_138 : decode cL_law 138 = .ok (.iaload, 1) := by decide +kernel
theorem dL_law_139 : decode cL_law 139 = .ok (.aload_n 0, 1) := by decide +kernel
theorem dL_law_140 : decode cL_law 140 = .ok (.iload_n 3, 1) := by decide +kernel
theorem dL_law_141 : decode cL_law 141 = .ok (.iconst 2, 1) := by decide +kernel
theorem dL_law_142 : decode cL_law 142 = .ok (.iadd, 1) := by decide +kernel
theorem dL_law_143 : decode cL_law 143 = .ok (.iaload, 1) := by decide +kernel
theorem dL_law_144 : decode cL_law 144 = .ok (.aload_n 0, 1) := by decide +kernel
theorem dL_law_145 : decode cL_law 145 = .ok (.iload_n 3, 1) := by decide +kernel
theorem dL_law_146 : decode cL_law 146 = .ok (.iconst 3, 1) := by decide +kernel
theorem dL_law_147 : decode cL_law 147 = .ok (.iadd, 1) := by decide +kernel
theorem dL_law_148 : decode cL_law 148 = .ok (.iaload, 1) := by decide +kernel
theorem dL_law_149 : decode cL_law 149 = .ok (.aload_n 0, 1) := by decide +kernel
theorem dL_law_150 : decode cL_law 150 = .ok (.iload_n 3, 1) := by decide +kernel
theorem dL_law_151 : decode cL_law 151 = .ok (.iconst 4, 1) := by decide +kernel
theorem dL_law_152 : decode cL_law 152 = .ok (.iadd, 1) := by decide +kernel
theorem dL_law_153 : decode cL_law 153 = .ok (.iaload, 1) := by decide +kernel
theorem dL_law_154 : decode cL_law 154 = .ok (.aload_n 0, 1) := by decide +kernel
theorem dL_law_155 : decode cL_law 155 = .ok (.iload_n 3, 1) := by decide +kernel
theorem dL_law_156 : decode cL_law 156 = .ok (.iconst 5, 1) := by decide +kernel
theorem dL_law_157 : decode cL_law 157 = .ok (.iadd, 1) := by decide +kernel
theorem dL_law_158 : decode cL_law 158 = .ok (.iaload, 1) := by decide +kernel
theorem dL_law_159 : decode cL_law 159 = .ok (.invokevirtual 17, 3) := by decide +kernel
theorem dL_law_162 : decode cL_law 162 = .ok (.goto 434, 3) := by decide +kernel
theorem dL_law_165 : decode cL_law 165 = .ok (.aload_n 1, 1) := by decide +kernel
theorem dL_law_166 : decode cL_law 166 = .ok (.aload_n 0, 1) := by decide +kernel
theorem dL_law_167 : decode cL_law 167 = .ok (.iload_n 3, 1) := by decide +kernel
theorem dL_law_168 : decode cL_law 168 = .ok (.iconst 1, 1) := by decide +kernel
theorem dL_law_169 : decode cL_law 169 = .ok (.iadd, 1) := by decide +kernel
theorem dL_law_170 : decode cL_law 170 = .ok (.iaload, 1) := by decide +kernel
theorem dL_law_171 : decode cL_law 171 = .ok (.invokevirtual 18, 3) := by decide +kernel
theorem dL_law_174 : decode cL_law 174 = .ok (.aload_n 2, 1) := by decide +kernel
theorem dL_law_175 : decode cL_law 175 = .ok (.aload_n 0, 1) := by decide +kernel
theorem dL_law_176 : decode cL_law 176 = .ok (.iload_n 3, 1) := by decide +kernel
theorem dL_law_177 : decode cL_law 177 = .ok (.iconst 1, 1) := by decide +kernel
theorem dL_law_178 : decode cL_law 178 = .ok (.iadd, 1) := by decide +kernel
theorem dL_law_179 : decode cL_law 179 = .ok (.iaload, 1) := by decide +kernel
theorem dL_law_180 : decode cL_law 180 = .ok (.invokevirtual 22, 3) := by decide +kernel
theorem dL_law_183 : decode cL_law 183 = .ok (.if_icmp .eq 413, 3) := by decide +kernel
theorem dL_law_186 : decode cL_law 186 = .ok (.iconst 0, 1) := by decide +kernel
theorem dL_law_187 : decode cL_law 187 = .ok (.ireturn, 1) := by decide +kernel
theorem dL_law_188 : decode cL_law 188 = .ok (.aload_n 1, 1) := by decide +kernel
theorem dL_law_189 : decode cL_law 189 = .ok (.aload_n 0, 1) := by decide +kernel
theorem dL_law_190 : decode cL_law 190 = .ok (.iload_n 3, 1) := by decide +kernel
theorem dL_law_191 : decode cL_law 191 = .ok (.iconst 1, 1) := by decide +kernel
theorem dL_law_192 : decode cL_law 192 = .ok (.iadd, 1) := by decide +kernel
theorem dL_law_193 : decode cL_law 193 = .ok (.iaload, 1) := by decide +kernel
theorem dL_law_194 : decode cL_law 194 = .ok (.aload_n 0, 1) := by decide +kernel
theorem dL_law_195 : decode cL_law 195 = .ok (.iload_n 3, 1) := by decide +kernel
theorem dL_law_196 : decode cL_law 196 = .ok (.iconst 2, 1) := by decide +kernel
theorem dL_law_197 : decode cL_law 197 = .ok (.iadd, 1) := by decide +kernel
theorem dL_law_198 : decode cL_law 198 = .ok (.iaload, 1) := by decide +kernel
theorem dL_law_199 : decode cL_law 199 = .ok (.invokevirtual 23, 3) := by decide +kernel
theorem dL_law_202 : decode cL_law 202 = .ok (.aload_n 2, 1) := by decide +kernel
theorem dL_law_203 : decode cL_law 203 = .ok (.aload_n 0, 1) := by decide +kernel
theorem dL_law_204 : decode cL_law 204 = .ok (.iload_n 3, 1) := by decide +kernel
theorem dL_law_205 : decode cL_law 205 = .ok (.iconst 1, 1) := by decide +kernel
end
section
set_option maxRecDepth 100000
theorem dL_law_206 : decode cL_law 206 = .ok (.iadd, 1) := by decide +kernel
theorem dL_law_207 : decode cL_law 207 = .ok (.iaload, 1) := by decide +kernel
theorem dL_law_208 : decode cL_law 208 = .ok (.aload_n 0, 1) := by decide +kernel
theorem dL_law_209 : decode cL_law 209 = .ok (.iload_n 3, 1) := by decide +kernel
theorem dL_law_210 : decode cL_law 210 = .ok (.iconst 2, 1) := by decide +kernel
theorem dL_law_211 : decode cL_law 211 = .ok (.iadd, 1) := by decide +kernel
theorem dL_law_212 : decode cL_law 212 = .ok (.iaload, 1) := by decide +kernel
theorem dL_law_213 : decode cL_law 213 = .ok (.invokevirtual 27, 3) := by decide +kernel
theorem dL_law_216 : decode cL_law 216 = .ok (.if_icmp .eq 380, 3) := by decide +kernel
theorem dL_law_219 : decode cL_law 219 = .ok (.iconst 0, 1) := by decide +kernel
theorem dL_law_220 : decode cL_law 220 = .ok (.ireturn, 1) := by decide +kernel
theorem dL_law_221 : decode cL_law 221 = .ok (.aload_n 1, 1) := by decide +kernel
theorem dL_law_222 : decode cL_law 222 = .ok (.aload_n 0, 1) := by decide +kernel
theorem dL_law_223 : decode cL_law 223 = .ok (.iload_n 3, 1) := by decide +kernel
theorem dL_law_224 : decode cL_law 224 = .ok (.iconst 1, 1) := by decide +kernel
theorem dL_law_225 : decode cL_law 225 = .ok (.iadd, 1) := by decide +kernel
theorem dL_law_226 : decode cL_law 226 = .ok (.iaload, 1) := by decide +kernel
theorem dL_law_227 : decode cL_law 227 = .ok (.aload_n 0, 1) := by decide +kernel
theorem dL_law_228 : decode cL_law 228 = .ok (.iload_n 3, 1) := by decide +kernel
theorem dL_law_229 : decode cL_law 229 = .ok (.iconst 2, 1) := by decide +kernel
theorem dL_law_230 : decode cL_law 230 = .ok (.iadd, 1) := by decide +kernel
theorem dL_law_231 : decode cL_law 231 = .ok (.iaload, 1) := by decide +kernel
theorem dL_law_232 : decode cL_law 232 = .ok (.aload_n 0, 1) := by decide +kernel
theorem dL_law_233 : decode cL_law 233 = .ok (.iload_n 3, 1) := by decide +kernel
theorem dL_law_234 : decode cL_law 234 = .ok (.iconst 3, 1) := by decide +kernel
theorem dL_law_235 : decode cL_law 235 = .ok (.iadd, 1) := by decide +kernel
theorem dL_law_236 : decode cL_law 236 = .ok (.iaload, 1) := by decide +kernel
theorem dL_law_237 : decode cL_law 237 = .ok (.invokevirtual 28, 3) := by decide +kernel
theorem dL_law_240 : decode cL_law 240 = .ok (.aload_n 2, 1) := by decide +kernel
theorem dL_law_241 : decode cL_law 241 = .ok (.aload_n 0, 1) := by decide +kernel
theorem dL_law_242 : decode cL_law 242 = .ok (.iload_n 3, 1) := by decide +kernel
theorem dL_law_243 : decode cL_law 243 = .ok (.iconst 1, 1) := by decide +kernel
theorem dL_law_244 : decode cL_law 244 = .ok (.iadd, 1) := by decide +kernel
theorem dL_law_245 : decode cL_law 245 = .ok (.iaload, 1) := by decide +kernel
theorem dL_law_246 : decode cL_law 246 = .ok (.aload_n 0, 1) := by decide +kernel
theorem dL_law_247 : decode cL_law 247 = .ok (.iload_n 3, 1) := by decide +kernel
theorem dL_law_248 : decode cL_law 248 = .ok (.iconst 2, 1) := by decide +kernel
theorem dL_law_249 : decode cL_law 249 = .ok (.iadd, 1) := by decide +kernel
theorem dL_law_250 : decode cL_law 250 = .ok (.iaload, 1) := by decide +kernel
theorem dL_law_251 : decode cL_law 251 = .ok (.aload_n 0, 1) := by decide +kernel
theorem dL_law_252 : decode cL_law 252 = .ok (.iload_n 3, 1) := by decide +kernel
theorem dL_law_253 : decode cL_law 253 = .ok (.iconst 3, 1) := by decide +kernel
theorem dL_law_254 : decode cL_law 254 = .ok (.iadd, 1) := by decide +kernel
theorem dL_law_255 : decode cL_law 255 = .ok (.iaload, 1) := by decide +kernel
theorem dL_law_256 : decode cL_law 256 = .ok (.invokevirtual 32, 3) := by decide +kernel
theorem dL_law_259 : decode cL_law 259 = .ok (.goto 337, 3) := by decide +kernel
theorem dL_law_262 : decode cL_law 262 = .ok (.aload_n 1, 1) := by decide +kernel
theorem dL_law_263 : decode cL_law 263 = .ok (.aload_n 0, 1) := by decide +kernel
theorem dL_law_264 : decode cL_law 264 = .ok (.iload_n 3, 1) := by decide +kernel
theorem dL_law_265 : decode cL_law 265 = .ok (.iconst 1, 1) := by decide +kernel
theorem dL_law_266 : decode cL_law 266 = .ok (.iadd, 1) := by decide +kernel
theorem dL_law_267 : decode cL_law 267 = .ok (.iaload, 1) := by decide +kernel
theorem dL_law_268 : decode cL_law 268 = .ok (.aload_n 0, 1) := by decide +kernel
theorem dL_law_269 : decode cL_law 269 = .ok (.iload_n 3, 1) := by decide +kernel
theorem dL_law_270 : decode cL_law 270 = .ok (.iconst 2, 1) := by decide +kernel
theorem dL_law_271 : decode cL_law 271 = .ok (.iadd, 1) := by decide +kernel
theorem dL_law_272 : decode cL_law 272 = .ok (.iaload, 1) := by decide +kernel
theorem dL_law_273 : decode cL_law 273 = .ok (.aload_n 0, 1) := by decide +kernel
theorem dL_law_274 : decode cL_law 274 = .ok (.iload_n 3, 1) := by decide +kernel
theorem dL_law_275 : decode cL_law 275 = .ok (.iconst 3, 1) := by decide +kernel
theorem dL_law_276 : decode cL_law 276 = .ok (.iadd, 1) := by decide +kernel
theorem dL_law_277 : decode cL_law 277 = .ok (.iaload, 1) := by decide +kernel
theorem dL_law_278 : decode cL_law 278 = .ok (.invokevirtual 33, 3) := by decide +kernel
theorem dL_law_281 : decode cL_law 281 = .ok (.aload_n 2, 1) := by decide +kernel
theorem dL_law_282 : decode cL_law 282 = .ok (.aload_n 0, 1) := by decide +kernel
theorem dL_law_283 : decode cL_law 283 = .ok (.iload_n 3, 1) := by decide +kernel
theorem dL_law_284 : decode cL_law 284 = .ok (.iconst 1, 1) := by decide +kernel
theorem dL_law_285 : decode cL_law 285 = .ok (.iadd, 1) := by decide +kernel
theorem dL_law_286 : decode cL_law 286 = .ok (.iaload, 1) := by decide +kernel
theorem dL_law_287 : decode cL_law 287 = .ok (.aload_n 0, 1) := by decide +kernel
theorem dL_law_288 : decode cL_law 288 = .ok (.iload_n 3, 1) := by decide +kernel
theorem dL_law_289 : decode cL_law 289 = .ok (.iconst 2, 1) := by decide +kernel
theorem dL_law_290 : decode cL_law 290 = .ok (.iadd, 1) := by decide +kernel
theorem dL_law_291 : decode cL_law 291 = .ok (.iaload, 1) := by decide +kernel
theorem dL_law_292 : decode cL_law 292 = .ok (.aload_n 0, 1) := by decide +kernel
theorem dL_law_293 : decode cL_law 293 = .ok (.iload_n 3, 1) := by decide +kernel
theorem dL_law_294 : decode cL_law 294 = .ok (.iconst 3, 1) := by decide +kernel
theorem dL_law_295 : decode cL_law 295 = .ok (.iadd, 1) := by decide +kernel
theorem dL_law_296 : decode cL_law 296 = .ok (.iaload, 1) := by decide +kernel
theorem dL_law_297 : decode cL_law 297 = .ok (.invokevirtual 36, 3) := by decide +kernel
theorem dL_law_300 : decode cL_law 300 = .ok (.goto 296, 3) := by decide +kernel
theorem dL_law_303 : decode cL_law 303 = .ok (.aload_n 1, 1) := by decide +kernel
theorem dL_law_304 : decode cL_law 304 = .ok (.aload_n 0, 1) := by decide +kernel
theorem dL_law_305 : decode cL_law 305 = .ok (.iload_n 3, 1) := by decide +kernel
theorem dL_law_306 : decode cL_law 306 = .ok (.iconst 1, 1) := by decide +kernel
theorem dL_law_307 : decode cL_law 307 = .ok (.iadd, 1) := by decide +kernel
theorem dL_law_308 : decode cL_law 308 = .ok (.iaload, 1) := by decide +kernel
theorem dL_law_309 : decode cL_law 309 = .ok (.aload_n 0, 1) := by decide +kernel
theorem dL_law_310 : decode cL_law 310 = .ok (.iload_n 3, 1) := by decide +kernel
theorem dL_law_311 : decode cL_law 311 = .ok (.iconst 2, 1) := by decide +kernel
theorem dL_law_312 : decode cL_law 312 = .ok (.iadd, 1) := by decide +kernel
theorem dL_law_313 : decode cL_law 313 = .ok (.iaload, 1) := by decide +kernel
theorem dL_law_314 : decode cL_law 314 = .ok (.aload_n 0, 1) := by decide +kernel
theorem dL_law_315 : decode cL_law 315 = .ok (.iload_n 3, 1) := by decide +kernel
theorem dL_law_316 : decode cL_law 316 = .ok (.iconst 3, 1) := by decide +kernel
theorem dL_law_317 : decode cL_law 317 = .ok (.iadd, 1) := by decide +kernel
theorem dL_law_318 : decode cL_law 318 = .ok (.iaload, 1) := by decide +kernel
theorem dL_law_319 : decode cL_law 319 = .ok (.invokevirtual 37, 3) := by decide +kernel
theorem dL_law_322 : decode cL_law 322 = .ok (.aload_n 2, 1) := by decide +kernel
theorem dL_law_323 : decode cL_law 323 = .ok (.aload_n 0, 1) := by decide +kernel
theorem dL_law_324 : decode cL_law 324 = .ok (.iload_n 3, 1) := by decide +kernel
theorem dL_law_325 : decode cL_law 325 = .ok (.iconst 1, 1) := by decide +kernel
theorem dL_law_326 : decode cL_law 326 = .ok (.iadd, 1) := by decide +kernel
theorem dL_law_327 : decode cL_law 327 = .ok (.iaload, 1) := by decide +kernel
theorem dL_law_328 : decode cL_law 328 = .ok (.aload_n 0, 1) := by decide +kernel
theorem dL_law_329 : decode cL_law 329 = .ok (.iload_n 3, 1) := by decide +kernel
theorem dL_law_330 : decode cL_law 330 = .ok (.iconst 2, 1) := by decide +kernel
theorem dL_law_331 : decode cL_law 331 = .ok (.iadd, 1) := by decide +kernel
theorem dL_law_332 : decode cL_law 332 = .ok (.iaload, 1) := by decide +kernel
theorem dL_law_333 : decode cL_law 333 = .ok (.aload_n 0, 1) := by decide +kernel
end
section
set_option maxRecDepth 100000
theorem dL_law_334 : decode cL_law 334 = .ok (.iload_n 3, 1) := by decide +kernel
theorem dL_law_335 : decode cL_law 335 = .ok (.iconst 3, 1) := by decide +kernel
theorem dL_law_336 : decode cL_law 336 = .ok (.iadd, 1) := by decide +kernel
theorem dL_law_337 : decode cL_law 337 = .ok (.iaload, 1) := by decide +kernel
theorem dL_law_338 : decode cL_law 338 = .ok (.invokevirtual 40, 3) := by decide +kernel
theorem dL_law_341 : decode cL_law 341 = .ok (.goto 255, 3) := by decide +kernel
theorem dL_law_344 : decode cL_law 344 = .ok (.aload_n 1, 1) := by decide +kernel
theorem dL_law_345 : decode cL_law 345 = .ok (.aload_n 0, 1) := by decide +kernel
theorem dL_law_346 : decode cL_law 346 = .ok (.iload_n 3, 1) := by decide +kernel
theorem dL_law_347 : decode cL_law 347 = .ok (.iconst 1, 1) := by decide +kernel
theorem dL_law_348 : decode cL_law 348 = .ok (.iadd, 1) := by decide +kernel
theorem dL_law_349 : decode cL_law 349 = .ok (.iaload, 1) := by decide +kernel
theorem dL_law_350 : decode cL_law 350 = .ok (.aload_n 0, 1) := by decide +kernel
theorem dL_law_351 : decode cL_law 351 = .ok (.iload_n 3, 1) := by decide +kernel
theorem dL_law_352 : decode cL_law 352 = .ok (.iconst 2, 1) := by decide +kernel
theorem dL_law_353 : decode cL_law 353 = .ok (.iadd, 1) := by decide +kernel
theorem dL_law_354 : decode cL_law 354 = .ok (.iaload, 1) := by decide +kernel
theorem dL_law_355 : decode cL_law 355 = .ok (.invokevirtual 41, 3) := by decide +kernel
theorem dL_law_358 : decode cL_law 358 = .ok (.aload_n 2, 1) := by decide +kernel
theorem dL_law_359 : decode cL_law 359 = .ok (.aload_n 0, 1) := by decide +kernel
theorem dL_law_360 : decode cL_law 360 = .ok (.iload_n 3, 1) := by decide +kernel
theorem dL_law_361 : decode cL_law 361 = .ok (.iconst 1, 1) := by decide +kernel
theorem dL_law_362 : decode cL_law 362 = .ok (.iadd, 1) := by decide +kernel
theorem dL_law_363 : decode cL_law 363 = .ok (.iaload, 1) := by decide +kernel
theorem dL_law_364 : decode cL_law 364 = .ok (.aload_n 0, 1) := by decide +kernel
theorem dL_law_365 : decode cL_law 365 = .ok (.iload_n 3, 1) := by decide +kernel
theorem dL_law_366 : decode cL_law 366 = .ok (.iconst 2, 1) := by decide +kernel
theorem dL_law_367 : decode cL_law 367 = .ok (.iadd, 1) := by decide +kernel
theorem dL_law_368 : decode cL_law 368 = .ok (.iaload, 1) := by decide +kernel
theorem dL_law_369 : decode cL_law 369 = .ok (.invokevirtual 45, 3) := by decide +kernel
theorem dL_law_372 : decode cL_law 372 = .ok (.goto 224, 3) := by decide +kernel
theorem dL_law_375 : decode cL_law 375 = .ok (.aload_n 1, 1) := by decide +kernel
theorem dL_law_376 : decode cL_law 376 = .ok (.aload_n 0, 1) := by decide +kernel
theorem dL_law_377 : decode cL_law 377 = .ok (.iload_n 3, 1) := by decide +kernel
theorem dL_law_378 : decode cL_law 378 = .ok (.iconst 1, 1) := by decide +kernel
theorem dL_law_379 : decode cL_law 379 = .ok (.iadd, 1) := by decide +kernel
theorem dL_law_380 : decode cL_law 380 = .ok (.iaload, 1) := by decide +kernel
theorem dL_law_381 : decode cL_law 381 = .ok (.aload_n 0, 1) := by decide +kernel
theorem dL_law_382 : decode cL_law 382 = .ok (.iload_n 3, 1) := by decide +kernel
theorem dL_law_383 : decode cL_law 383 = .ok (.iconst 2, 1) := by decide +kernel
theorem dL_law_384 : decode cL_law 384 = .ok (.iadd, 1) := by decide +kernel
theorem dL_law_385 : decode cL_law 385 = .ok (.iaload, 1) := by decide +kernel
theorem dL_law_386 : decode cL_law 386 = .ok (.aload_n 0, 1) := by decide +kernel
theorem dL_law_387 : decode cL_law 387 = .ok (.iload_n 3, 1) := by decide +kernel
theorem dL_law_388 : decode cL_law 388 = .ok (.iconst 3, 1) := by decide +kernel
theorem dL_law_389 : decode cL_law 389 = .ok (.iadd, 1) := by decide +kernel
theorem dL_law_390 : decode cL_law 390 = .ok (.iaload, 1) := by decide +kernel
theorem dL_law_391 : decode cL_law 391 = .ok (.invokevirtual 46, 3) := by decide +kernel
theorem dL_law_394 : decode cL_law 394 = .ok (.aload_n 2, 1) := by decide +kernel
theorem dL_law_395 : decode cL_law 395 = .ok (.aload_n 0, 1) := by decide +kernel
theorem dL_law_396 : decode cL_law 396 = .ok (.iload_n 3, 1) := by decide +kernel
theorem dL_law_397 : decode cL_law 397 = .ok (.iconst 1, 1) := by decide +kernel
theorem dL_law_398 : decode cL_law 398 = .ok (.iadd, 1) := by decide +kernel
theorem dL_law_399 : decode cL_law 399 = .ok (.iaload, 1) := by decide +kernel
theorem dL_law_400 : decode cL_law 400 = .ok (.aload_n 0, 1) := by decide +kernel
theorem dL_law_401 : decode cL_law 401 = .ok (.iload_n 3, 1) := by decide +kernel
theorem dL_law_402 : decode cL_law 402 = .ok (.iconst 2, 1) := by decide +kernel
theorem dL_law_403 : decode cL_law 403 = .ok (.iadd, 1) := by decide +kernel
theorem dL_law_404 : decode cL_law 404 = .ok (.iaload, 1) := by decide +kernel
theorem dL_law_405 : decode cL_law 405 = .ok (.aload_n 0, 1) := by decide +kernel
theorem dL_law_406 : decode cL_law 406 = .ok (.iload_n 3, 1) := by decide +kernel
theorem dL_law_407 : decode cL_law 407 = .ok (.iconst 3, 1) := by decide +kernel
theorem dL_law_408 : decode cL_law 408 = .ok (.iadd, 1) := by decide +kernel
theorem dL_law_409 : decode cL_law 409 = .ok (.iaload, 1) := by decide +kernel
theorem dL_law_410 : decode cL_law 410 = .ok (.invokevirtual 49, 3) := by decide +kernel
theorem dL_law_413 : decode cL_law 413 = .ok (.goto 183, 3) := by decide +kernel
theorem dL_law_416 : decode cL_law 416 = .ok (.aload_n 1, 1) := by decide +kernel
theorem dL_law_417 : decode cL_law 417 = .ok (.aload_n 0, 1) := by decide +kernel
theorem dL_law_418 : decode cL_law 418 = .ok (.iload_n 3, 1) := by decide +kernel
theorem dL_law_419 : decode cL_law 419 = .ok (.iconst 1, 1) := by decide +kernel
theorem dL_law_420 : decode cL_law 420 = .ok (.iadd, 1) := by decide +kernel
theorem dL_law_421 : decode cL_law 421 = .ok (.iaload, 1) := by decide +kernel
theorem dL_law_422 : decode cL_law 422 = .ok (.aload_n 0, 1) := by decide +kernel
theorem dL_law_423 : decode cL_law 423 = .ok (.iload_n 3, 1) := by decide +kernel
theorem dL_law_424 : decode cL_law 424 = .ok (.iconst 2, 1) := by decide +kernel
theorem dL_law_425 : decode cL_law 425 = .ok (.iadd, 1) := by decide +kernel
theorem dL_law_426 : decode cL_law 426 = .ok (.iaload, 1) := by decide +kernel
theorem dL_law_427 : decode cL_law 427 = .ok (.invokevirtual 50, 3) := by decide +kernel
theorem dL_law_430 : decode cL_law 430 = .ok (.aload_n 2, 1) := by decide +kernel
theorem dL_law_431 : decode cL_law 431 = .ok (.aload_n 0, 1) := by decide +kernel
theorem dL_law_432 : decode cL_law 432 = .ok (.iload_n 3, 1) := by decide +kernel
theorem dL_law_433 : decode cL_law 433 = .ok (.iconst 1, 1) := by decide +kernel
theorem dL_law_434 : decode cL_law 434 = .ok (.iadd, 1) := by decide +kernel
theorem dL_law_435 : decode cL_law 435 = .ok (.iaload, 1) := by decide +kernel
theorem dL_law_436 : decode cL_law 436 = .ok (.aload_n 0, 1) := by decide +kernel
theorem dL_law_437 : decode cL_law 437 = .ok (.iload_n 3, 1) := by decide +kernel
theorem dL_law_438 : decode cL_law 438 = .ok (.iconst 2, 1) := by decide +kernel
theorem dL_law_439 : decode cL_law 439 = .ok (.iadd, 1) := by decide +kernel
theorem dL_law_440 : decode cL_law 440 = .ok (.iaload, 1) := by decide +kernel
theorem dL_law_441 : decode cL_law 441 = .ok (.invokevirtual 53, 3) := by decide +kernel
theorem dL_law_444 : decode cL_law 444 = .ok (.goto 152, 3) := by decide +kernel
theorem dL_law_447 : decode cL_law 447 = .ok (.aload_n 1, 1) := by decide +kernel
theorem dL_law_448 : decode cL_law 448 = .ok (.aload_n 0, 1) := by decide +kernel
theorem dL_law_449 : decode cL_law 449 = .ok (.iload_n 3, 1) := by decide +kernel
theorem dL_law_450 : decode cL_law 450 = .ok (.iconst 1, 1) := by decide +kernel
theorem dL_law_451 : decode cL_law 451 = .ok (.iadd, 1) := by decide +kernel
theorem dL_law_452 : decode cL_law 452 = .ok (.iaload, 1) := by decide +kernel
theorem dL_law_453 : decode cL_law 453 = .ok (.aload_n 0, 1) := by decide +kernel
theorem dL_law_454 : decode cL_law 454 = .ok (.iload_n 3, 1) := by decide +kernel
theorem dL_law_455 : decode cL_law 455 = .ok (.iconst 2, 1) := by decide +kernel
theorem dL_law_456 : decode cL_law 456 = .ok (.iadd, 1) := by decide +kernel
theorem dL_law_457 : decode cL_law 457 = .ok (.iaload, 1) := by decide +kernel
theorem dL_law_458 : decode cL_law 458 = .ok (.invokevirtual 54, 3) := by decide +kernel
theorem dL_law_461 : decode cL_law 461 = .ok (.aload_n 2, 1) := by decide +kernel
theorem dL_law_462 : decode cL_law 462 = .ok (.aload_n 0, 1) := by decide +kernel
theorem dL_law_463 : decode cL_law 463 = .ok (.iload_n 3, 1) := by decide +kernel
theorem dL_law_464 : decode cL_law 464 = .ok (.iconst 1, 1) := by decide +kernel
theorem dL_law_465 : decode cL_law 465 = .ok (.iadd, 1) := by decide +kernel
theorem dL_law_466 : decode cL_law 466 = .ok (.iaload, 1) := by decide +kernel
theorem dL_law_467 : decode cL_law 467 = .ok (.aload_n 0, 1) := by decide +kernel
end
section
set_option maxRecDepth 100000
theorem dL_law_468 : decode cL_law 468 = .ok (.iload_n 3, 1) := by decide +kernel
theorem dL_law_469 : decode cL_law 469 = .ok (.iconst 2, 1) := by decide +kernel
theorem dL_law_470 : decode cL_law 470 = .ok (.iadd, 1) := by decide +kernel
theorem dL_law_471 : decode cL_law 471 = .ok (.iaload, 1) := by decide +kernel
theorem dL_law_472 : decode cL_law 472 = .ok (.invokevirtual 57, 3) := by decide +kernel
theorem dL_law_475 : decode cL_law 475 = .ok (.goto 121, 3) := by decide +kernel
theorem dL_law_478 : decode cL_law 478 = .ok (.aload_n 1, 1) := by decide +kernel
theorem dL_law_479 : decode cL_law 479 = .ok (.aload_n 0, 1) := by decide +kernel
theorem dL_law_480 : decode cL_law 480 = .ok (.iload_n 3, 1) := by decide +kernel
theorem dL_law_481 : decode cL_law 481 = .ok (.iconst 1, 1) := by decide +kernel
theorem dL_law_482 : decode cL_law 482 = .ok (.iadd, 1) := by decide +kernel
theorem dL_law_483 : decode cL_law 483 = .ok (.iaload, 1) := by decide +kernel
theorem dL_law_484 : decode cL_law 484 = .ok (.aload_n 0, 1) := by decide +kernel
theorem dL_law_485 : decode cL_law 485 = .ok (.iload_n 3, 1) := by decide +kernel
theorem dL_law_486 : decode cL_law 486 = .ok (.iconst 2, 1) := by decide +kernel
theorem dL_law_487 : decode cL_law 487 = .ok (.iadd, 1) := by decide +kernel
theorem dL_law_488 : decode cL_law 488 = .ok (.iaload, 1) := by decide +kernel
theorem dL_law_489 : decode cL_law 489 = .ok (.invokevirtual 58, 3) := by decide +kernel
theorem dL_law_492 : decode cL_law 492 = .ok (.aload_n 2, 1) := by decide +kernel
theorem dL_law_493 : decode cL_law 493 = .ok (.aload_n 0, 1) := by decide +kernel
theorem dL_law_494 : decode cL_law 494 = .ok (.iload_n 3, 1) := by decide +kernel
theorem dL_law_495 : decode cL_law 495 = .ok (.iconst 1, 1) := by decide +kernel
theorem dL_law_496 : decode cL_law 496 = .ok (.iadd, 1) := by decide +kernel
theorem dL_law_497 : decode cL_law 497 = .ok (.iaload, 1) := by decide +kernel
theorem dL_law_498 : decode cL_law 498 = .ok (.aload_n 0, 1) := by decide +kernel
theorem dL_law_499 : decode cL_law 499 = .ok (.iload_n 3, 1) := by decide +kernel
theorem dL_law_500 : decode cL_law 500 = .ok (.iconst 2, 1) := by decide +kernel
theorem dL_law_501 : decode cL_law 501 = .ok (.iadd, 1) := by decide +kernel
theorem dL_law_502 : decode cL_law 502 = .ok (.iaload, 1) := by decide +kernel
theorem dL_law_503 : decode cL_law 503 = .ok (.invokevirtual 61, 3) := by decide +kernel
theorem dL_law_506 : decode cL_law 506 = .ok (.goto 90, 3) := by decide +kernel
theorem dL_law_509 : decode cL_law 509 = .ok (.aload_n 1, 1) := by decide +kernel
theorem dL_law_510 : decode cL_law 510 = .ok (.aload_n 0, 1) := by decide +kernel
theorem dL_law_511 : decode cL_law 511 = .ok (.iload_n 3, 1) := by decide +kernel
theorem dL_law_512 : decode cL_law 512 = .ok (.iconst 1, 1) := by decide +kernel
theorem dL_law_513 : decode cL_law 513 = .ok (.iadd, 1) := by decide +kernel
theorem dL_law_514 : decode cL_law 514 = .ok (.iaload, 1) := by decide +kernel
theorem dL_law_515 : decode cL_law 515 = .ok (.aload_n 0, 1) := by decide +kernel
theorem dL_law_516 : decode cL_law 516 = .ok (.iload_n 3, 1) := by decide +kernel
theorem dL_law_517 : decode cL_law 517 = .ok (.iconst 2, 1) := by decide +kernel
theorem dL_law_518 : decode cL_law 518 = .ok (.iadd, 1) := by decide +kernel
theorem dL_law_519 : decode cL_law 519 = .ok (.iaload, 1) := by decide +kernel
theorem dL_law_520 : decode cL_law 520 = .ok (.invokevirtual 62, 3) := by decide +kernel
theorem dL_law_523 : decode cL_law 523 = .ok (.aload_n 2, 1) := by decide +kernel
theorem dL_law_524 : decode cL_law 524 = .ok (.aload_n 0, 1) := by decide +kernel
theorem dL_law_525 : decode cL_law 525 = .ok (.iload_n 3, 1) := by decide +kernel
theorem dL_law_526 : decode cL_law 526 = .ok (.iconst 1, 1) := by decide +kernel
theorem dL_law_527 : decode cL_law 527 = .ok (.iadd, 1) := by decide +kernel
theorem dL_law_528 : decode cL_law 528 = .ok (.iaload, 1) := by decide +kernel
theorem dL_law_529 : decode cL_law 529 = .ok (.aload_n 0, 1) := by decide +kernel
theorem dL_law_530 : decode cL_law 530 = .ok (.iload_n 3, 1) := by decide +kernel
theorem dL_law_531 : decode cL_law 531 = .ok (.iconst 2, 1) := by decide +kernel
theorem dL_law_532 : decode cL_law 532 = .ok (.iadd, 1) := by decide +kernel
theorem dL_law_533 : decode cL_law 533 = .ok (.iaload, 1) := by decide +kernel
theorem dL_law_534 : decode cL_law 534 = .ok (.invokevirtual 66, 3) := by decide +kernel
theorem dL_law_537 : decode cL_law 537 = .ok (.if_icmp .eq 59, 3) := by decide +kernel
theorem dL_law_540 : decode cL_law 540 = .ok (.iconst 0, 1) := by decide +kernel
theorem dL_law_541 : decode cL_law 541 = .ok (.ireturn, 1) := by decide +kernel
theorem dL_law_542 : decode cL_law 542 = .ok (.aload_n 1, 1) := by decide +kernel
theorem dL_law_543 : decode cL_law 543 = .ok (.aload_n 0, 1) := by decide +kernel
theorem dL_law_544 : decode cL_law 544 = .ok (.iload_n 3, 1) := by decide +kernel
theorem dL_law_545 : decode cL_law 545 = .ok (.iconst 1, 1) := by decide +kernel
theorem dL_law_546 : decode cL_law 546 = .ok (.iadd, 1) := by decide +kernel
theorem dL_law_547 : decode cL_law 547 = .ok (.iaload, 1) := by decide +kernel
theorem dL_law_548 : decode cL_law 548 = .ok (.invokevirtual 67, 3) := by decide +kernel
theorem dL_law_551 : decode cL_law 551 = .ok (.aload_n 2, 1) := by decide +kernel
theorem dL_law_552 : decode cL_law 552 = .ok (.aload_n 0, 1) := by decide +kernel
theorem dL_law_553 : decode cL_law 553 = .ok (.iload_n 3, 1) := by decide +kernel
theorem dL_law_554 : decode cL_law 554 = .ok (.iconst 1, 1) := by decide +kernel
theorem dL_law_555 : decode cL_law 555 = .ok (.iadd, 1) := by decide +kernel
theorem dL_law_556 : decode cL_law 556 = .ok (.iaload, 1) := by decide +kernel
theorem dL_law_557 : decode cL_law 557 = .ok (.invokevirtual 70, 3) := by decide +kernel
theorem dL_law_560 : decode cL_law 560 = .ok (.if_icmp .eq 36, 3) := by decide +kernel
theorem dL_law_563 : decode cL_law 563 = .ok (.iconst 0, 1) := by decide +kernel
theorem dL_law_564 : decode cL_law 564 = .ok (.ireturn, 1) := by decide +kernel
theorem dL_law_565 : decode cL_law 565 = .ok (.aload_n 1, 1) := by decide +kernel
theorem dL_law_566 : decode cL_law 566 = .ok (.aload_n 0, 1) := by decide +kernel
theorem dL_law_567 : decode cL_law 567 = .ok (.iload_n 3, 1) := by decide +kernel
theorem dL_law_568 : decode cL_law 568 = .ok (.iconst 1, 1) := by decide +kernel
theorem dL_law_569 : decode cL_law 569 = .ok (.iadd, 1) := by decide +kernel
theorem dL_law_570 : decode cL_law 570 = .ok (.iaload, 1) := by decide +kernel
theorem dL_law_571 : decode cL_law 571 = .ok (.aload_n 0, 1) := by decide +kernel
theorem dL_law_572 : decode cL_law 572 = .ok (.iload_n 3, 1) := by decide +kernel
theorem dL_law_573 : decode cL_law 573 = .ok (.iconst 2, 1) := by decide +kernel
theorem dL_law_574 : decode cL_law 574 = .ok (.iadd, 1) := by decide +kernel
theorem dL_law_575 : decode cL_law 575 = .ok (.iaload, 1) := by decide +kernel
theorem dL_law_576 : decode cL_law 576 = .ok (.invokevirtual 71, 3) := by decide +kernel
theorem dL_law_579 : decode cL_law 579 = .ok (.aload_n 2, 1) := by decide +kernel
theorem dL_law_580 : decode cL_law 580 = .ok (.aload_n 0, 1) := by decide +kernel
theorem dL_law_581 : decode cL_law 581 = .ok (.iload_n 3, 1) := by decide +kernel
theorem dL_law_582 : decode cL_law 582 = .ok (.iconst 1, 1) := by decide +kernel
theorem dL_law_583 : decode cL_law 583 = .ok (.iadd, 1) := by decide +kernel
theorem dL_law_584 : decode cL_law 584 = .ok (.iaload, 1) := by decide +kernel
theorem dL_law_585 : decode cL_law 585 = .ok (.aload_n 0, 1) := by decide +kernel
theorem dL_law_586 : decode cL_law 586 = .ok (.iload_n 3, 1) := by decide +kernel
theorem dL_law_587 : decode cL_law 587 = .ok (.iconst 2, 1) := by decide +kernel
theorem dL_law_588 : decode cL_law 588 = .ok (.iadd, 1) := by decide +kernel
theorem dL_law_589 : decode cL_law 589 = .ok (.iaload, 1) := by decide +kernel
theorem dL_law_590 : decode cL_law 590 = .ok (.invokevirtual 74, 3) := by decide +kernel
theorem dL_law_593 : decode cL_law 593 = .ok (.goto 3, 3) := by decide +kernel
theorem dL_law_596 : decode cL_law 596 = .ok (.iinc 3 6, 3) := by decide +kernel
theorem dL_law_599 : decode cL_law 599 = .ok (.goto (-581), 3) := by decide +kernel
theorem dL_law_602 : decode cL_law 602 = .ok (.iconst 1, 1) := by decide +kernel
theorem dL_law_603 : decode cL_law 603 = .ok (.ireturn, 1) := by decide +kernel
end
section
set_option maxRecDepth 100000
/-! THE CLAIM OUT OF ONE WALK OF THE LAW'S BODY. Your part is whole_start (and what it stands on); all else here is the same for every law, but numbers. -/
def R_law : String := "Prime384Law"
def lw_P (b : Addr) (xs : List Int32) (args : Array Value) (s : State) : Prop := args = #[.ref b] ∧ s.IntsAt b xs ∧ xs.length ≤ 3072 ∧ (Jvm.Cond.and given_1 narrow_1).before args s = true
def lw_Q (_ : Array Value) (s : State) (o : Outcome) (t : State) : Prop := o = .returned (some (.int 1)) ∧ Framed s o t [] 600000 7290000
def lw_Z (below : List Frame) (a : Array Value) (s : State) : State → Prop := fun t => ∃ o, t.status = .running ∧ Ended t below o ∧ lw_Q a s o t
/-- the law's own end, with 1 on the stack, nothing written that was there before, its room as the claim has it -/
theorem lw_ret {p : Program} {l : Launch} {e : Env} {s : State} {m : MethodId} {below : List Frame} {meth : Method} {c : Code} {b : Nat} (hx : p.tables.exec = Jvm.exec) (hb : c.code = code) (hr : meth.sig.returnType = ret) (hlocks : meth.locks = false) {pc : Nat} {H : Heap} {ls : Array Slot} (hdg : decode code pc = .ok (.ireturn, 1)) : W p l e room_1 s m #[Value.ref b] below meth c H [] 600000 7290000 (lw_Z below #[Value.ref b] s) (F0 m pc ls [.int 1]) := by
  intro T hT X
  obtain ⟨fs, hret, hrun, hended, hW, hframe⟩ := X.leave (v := some (.int 1)) (hlocks := hlocks) (fun h => by rw [hr] at h; cases h)
  have hmeth' : T.vm.method? m = some meth := X.method'
  refine ⟨T.setFrames fs, ?_, .returned (some (.int 1)), hrun, hended, rfl, ⟨_, rfl⟩, hW, hframe⟩
  jvm_step X.here [X.here.top, hx, hb, hdg, hmeth', hr, ret, narrow_b1]
  (try refine ⟨rfl, ?_⟩); (try refine ⟨rfl, ?_⟩)
  first | (intro acts; rw [hret _ acts rfl rfl rfl]) | rw [hret _ _ rfl rfl rfl]
  exact Steps.refl _
/-- what holds at the law's entry: the machine, the code, the tables' words (any of lw_tbl by 'hts w (by decide +kernel)'), the script of L ints xs at the cell b, what the Statement gives of the start (any of its parts by flat_of_before) -/
def lw_At (p : Program) (s : State) (m : MethodId) (meth : Method) (c : Code) (b L : Nat) (xs : Nat → Int32) : Prop :=
  p.tables.exec = Jvm.exec ∧ c.code = code ∧ meth.sig.returnType = ret ∧ c.maxLocals = 4 ∧ s.vm.findClass R_law = some m.cls ∧ (∀ w ∈ lw_tbl, w.before #[Value.ref b] s = true) ∧ va_X b L xs s s.heap ∧ b < s.heap.size ∧ meth.locks = false ∧ (Jvm.Cond.and given_1 narrow_1).before #[Value.ref b] s = true
end
section
/-! THE LAW'S FRAME: both objects, the script; LJ: a judgement over the two pictures, the law's counter and the stack -/
section Lfr
abbrev lZ : Type := (Program × Launch × Env × State × MethodId) × (List Frame × Method × Code × Nat × Nat × (Nat → Int32)) × (va_G × ClassId × ClassId × (Nat → Nat) × (Nat → Nat))
def lA (s : State) : Nat → Prop := fun q => s.heap.size ≤ q
def lX (z : lZ) (f : gF) (g : gG) (f2 : gF) (g2 : gG) (H : Heap) (locs : List Loc) : Prop := va_K z.2.2.1 vwCl (gTys z.2.2.2.1 z.2.2.2.2.1) z.1.2.2.2.1 ∧ va_P z.2.2.1 vwCl (gw 0 z.2.2.2.1 z.2.2.2.2.1 z.2.2.2.2.2.1 f g) H ∧ va_P z.2.2.1 vwCl (gw 1 z.2.2.2.1 z.2.2.2.2.1 z.2.2.2.2.2.2 f2 g2) H ∧ va_D (lA z.1.2.2.2.1) (gw 0 z.2.2.2.1 z.2.2.2.2.1 z.2.2.2.2.2.1 f g) ∧ va_D (lA z.1.2.2.2.1) (gw 1 z.2.2.2.1 z.2.2.2.2.1 z.2.2.2.2.2.2 f2 g2) ∧ va_S (lA z.1.2.2.2.1) z.1.2.2.2.1.heap H locs
abbrev lLV (b : Nat) (a a2 : Nat → Nat) (i : Nat) : List (Nat × Value) := [(0, .ref b), (1, .ref (a 0)), (2, .ref (a2 0)), (3, .int (nI i))]
def LJ (z : lZ) (V : Nat → Nat) (Ln : Nat) (V2 : Nat → Nat) (Ln2 : Nat) (pc i : Nat) (st : List Value) : Prop := ∀ (f : gF) (g : gG) (f2 : gF) (g2 : gG) (H : Heap) (locs : List Loc) (ls : Array Slot), XI V Ln f → MI V2 Ln2 f2 → lX z f g f2 g2 H locs → lv_has ls 4 (lLV z.2.1.2.2.2.1 z.2.2.2.2.2.1 z.2.2.2.2.2.2 i) →
  W z.1.1 z.1.2.1 z.1.2.2.1 room_1 z.1.2.2.2.1 z.1.2.2.2.2 #[Value.ref z.2.1.2.2.2.1] z.2.1.1 z.2.1.2.1 z.2.1.2.2.1 H locs 26 571 (lw_Z z.2.1.1 #[Value.ref z.2.1.2.2.2.1] z.1.2.2.2.1) (F0 z.1.2.2.2.2 pc ls st)
def lOK (z : lZ) (l : Launch) (b L : Nat) (xs : Nat → Int32) (D : va_G) (d dL : ClassId) (a a2 : Nat → Nat) : Prop := z.1.1.tables.exec = Jvm.exec ∧ z.2.1.2.2.1.code = cL_law ∧ z.1.2.2.2.1.vm.findClass R_law = some z.1.2.2.2.2.cls ∧ (∀ w ∈ lw_all, w.before #[Value.ref z.2.1.2.2.2.1] z.1.2.2.2.1 = true) ∧ z.2.1.2.2.1.maxLocals = 4 ∧ z.2.1.2.1.locks = false ∧ z.2.1.2.1.sig.returnType = ret ∧ va_X z.2.1.2.2.2.1 z.2.1.2.2.2.2.1 z.2.1.2.2.2.2.2 z.1.2.2.2.1 z.1.2.2.2.1.heap ∧ z.2.1.2.2.2.1 < z.1.2.2.2.1.heap.size ∧ (∀ i j, i < 13 → j < 13 → z.2.2.2.2.2.1 i ≠ z.2.2.2.2.2.2 j) ∧
  z.1.2.1 = l ∧ z.2.1.2.2.2.1 = b ∧ z.2.1.2.2.2.2.1 = L ∧ z.2.1.2.2.2.2.2 = xs ∧ z.2.2.1 = D ∧ z.2.2.2.1 = d ∧ z.2.2.2.2.1 = dL ∧ z.2.2.2.2.2.1 = a ∧ z.2.2.2.2.2.2 = a2
section LRules
variable {z : lZ} {l : Launch} {b L : Nat} {xs : Nat → Int32} {D : va_G} {d dL : ClassId} {a a2 : Nat → Nat} {V V2 : Nat → Nat} {Ln Ln2 pc i : Nat} {st : List Value}
theorem LJ.eqi {x y : Int32} (h : x = y) (kk : LJ z V Ln V2 Ln2 pc i (.int y :: st)) : LJ z V Ln V2 Ln2 pc i (.int x :: st) := h ▸ kk
theorem LJ.eqs {st' : List Value} (h : st = st') (kk : LJ z V Ln V2 Ln2 pc i st') : LJ z V Ln V2 Ln2 pc i st := h ▸ kk
theorem LJ.iconst (C : lOK z l b L xs D d dL a a2) {n : Int} {v : Int32} (hdg : decode cL_law pc = .ok (.iconst n, 1)) (hv : Int32.ofInt n = v) (kk : LJ z V Ln V2 Ln2 (pc + 1) i (.int v :: st)) : LJ z V Ln V2 Ln2 pc i st := fun f g f2 g2 H locs ls h1 h2 hX h => lv_iconst C.1 C.2.1 hdg hv (kk f g f2 g2 H locs ls h1 h2 hX h)
theorem LJ.bipush (C : lOK z l b L xs D d dL a a2) {n : Int} {v : Int32} (hdg : decode cL_law pc = .ok (.bipush n, 2)) (hv : (Int8.ofInt n).toInt32 = v) (kk : LJ z V Ln V2 Ln2 (pc + 2) i (.int v :: st)) : LJ z V Ln V2 Ln2 pc i st := fun f g f2 g2 H locs ls h1 h2 hX h => lv_bipush C.1 C.2.1 hdg hv (kk f g f2 g2 H locs ls h1 h2 hX h)
theorem LJ.scr (C : lOK z l b L xs D d dL a a2) (hdg : decode cL_law pc = .ok (.aload_n 0, 1)) (kk : LJ z V Ln V2 Ln2 (pc + 1) i (.ref b :: st)) : LJ z V Ln V2 Ln2 pc i st := by
  obtain ⟨hx, hb, -, -, -, -, -, -, -, -, -, rfl, -⟩ := C
  exact fun f g f2 g2 H locs ls h1 h2 hX h => lv_aload_n hx hb hdg rfl (lv_at h 0 rfl) (kk f g f2 g2 H locs ls h1 h2 hX h)
theorem LJ.ldX (C : lOK z l b L xs D d dL a a2) (hdg : decode cL_law pc = .ok (.aload_n 1, 1)) (kk : LJ z V Ln V2 Ln2 (pc + 1) i (.ref (a 0) :: st)) : LJ z V Ln V2 Ln2 pc i st := by
  obtain ⟨hx, hb, -, -, -, -, -, -, -, -, -, -, -, -, -, -, -, rfl, -⟩ := C
  exact fun f g f2 g2 H locs ls h1 h2 hX h => lv_aload_n hx hb hdg rfl (lv_at h 1 rfl) (kk f g f2 g2 H locs ls h1 h2 hX h)
theorem LJ.ldM (C : lOK z l b L xs D d dL a a2) (hdg : decode cL_law pc = .ok (.aload_n 2, 1)) (kk : LJ z V Ln V2 Ln2 (pc + 1) i (.ref (a2 0) :: st)) : LJ z V Ln V2 Ln2 pc i st := by
  obtain ⟨hx, hb, -, -, -, -, -, -, -, -, -, -, -, -, -, -, -, -, rfl⟩ := C
  exact fun f g f2 g2 H locs ls h1 h2 hX h => lv_aload_n hx hb hdg rfl (lv_at h 2 rfl) (kk f g f2 g2 H locs ls h1 h2 hX h)
theorem LJ.ldI (C : lOK z l b L xs D d dL a a2) (hdg : decode cL_law pc = .ok (.iload_n 3, 1)) (kk : LJ z V Ln V2 Ln2 (pc + 1) i (.int (nI i) :: st)) : LJ z V Ln V2 Ln2 pc i st := fun f g f2 g2 H locs ls h1 h2 hX h => lv_iload_n C.1 C.2.1 hdg rfl (lv_at h 3 rfl) (kk f g f2 g2 H locs ls h1 h2 hX h)
theorem LJ.iadd (C : lOK z l b L xs D d dL a a2) {x y : Int32} (hdg : decode cL_law pc = .ok (.iadd, 1)) (kk : LJ z V Ln V2 Ln2 (pc + 1) i (.int (x + y) :: st)) : LJ z V Ln V2 Ln2 pc i (.int y :: .int x :: st) := fun f g f2 g2 H locs ls h1 h2 hX h => lv_iadd C.1 C.2.1 hdg (kk f g f2 g2 H locs ls h1 h2 hX h)
theorem LJ.isub (C : lOK z l b L xs D d dL a a2) {x y : Int32} (hdg : decode cL_law pc = .ok (.isub, 1)) (kk : LJ z V Ln V2 Ln2 (pc + 1) i (.int (x - y) :: st)) : LJ z V Ln V2 Ln2 pc i (.int y :: .int x :: st) := fun f g f2 g2 H locs ls h1 h2 hX h => lv_isub C.1 C.2.1 hdg (kk f g f2 g2 H locs ls h1 h2 hX h)
theorem LJ.iand (C : lOK z l b L xs D d dL a a2) {x y : Int32} (hdg : decode cL_law pc = .ok (.iand, 1)) (kk : LJ z V Ln V2 Ln2 (pc + 1) i (.int (x &&& y) :: st)) : LJ z V Ln V2 Ln2 pc i (.int y :: .int x :: st) := fun f g f2 g2 H locs ls h1 h2 hX h => lv_iand C.1 C.2.1 hdg (kk f g f2 g2 H locs ls h1 h2 hX h)
theorem LJ.pop (C : lOK z l b L xs D d dL a a2) {v : Value} (hdg : decode cL_law pc = .ok (.pop, 1)) (hv : v.category = 1) (kk : LJ z V Ln V2 Ln2 (pc + 1) i st) : LJ z V Ln V2 Ln2 pc i (v :: st) := fun f g f2 g2 H locs ls h1 h2 hX h => lv_pop C.1 C.2.1 hdg hv (kk f g f2 g2 H locs ls h1 h2 hX h)
theorem LJ.goto (C : lOK z l b L xs D d dL a a2) {off : Int} {tgt : Nat} (hdg : decode cL_law pc = .ok (.goto off, 3)) (ht : (pc : Int) + off = (tgt : Int)) (kk : LJ z V Ln V2 Ln2 tgt i st) : LJ z V Ln V2 Ln2 pc i st := fun f g f2 g2 H locs ls h1 h2 hX h => lv_goto C.1 C.2.1 hdg ht (kk f g f2 g2 H locs ls h1 h2 hX h)
theorem LJ.icmp_eq (C : lOK z l b L xs D d dL a a2) {x y : Int32} {off : Int} {tgt : Nat} (hdg : decode cL_law pc = .ok (.if_icmp .eq off, 3)) (ht : (pc : Int) + off = (tgt : Int)) (he : x = y) (kt : LJ z V Ln V2 Ln2 tgt i st) : LJ z V Ln V2 Ln2 pc i (.int y :: .int x :: st) := fun f g f2 g2 H locs ls h1 h2 hX h => lv_icmp_eq C.1 C.2.1 hdg ht (fun _ => kt f g f2 g2 H locs ls h1 h2 hX h) (fun c => absurd he c)
theorem LJ.icmp_gt (C : lOK z l b L xs D d dL a a2) {x y : Int32} {off : Int} {tgt : Nat} (hdg : decode cL_law pc = .ok (.if_icmp .gt off, 3)) (ht : (pc : Int) + off = (tgt : Int)) (kt : y < x → LJ z V Ln V2 Ln2 tgt i st) (kf : ¬ y < x → LJ z V Ln V2 Ln2 (pc + 3) i st) : LJ z V Ln V2 Ln2 pc i (.int y :: .int x :: st) := fun f g f2 g2 H locs ls h1 h2 hX h => lv_icmp_gt C.1 C.2.1 hdg ht (fun c => kt c f g f2 g2 H locs ls h1 h2 hX h) (fun c => kf c f g f2 g2 H locs ls h1 h2 hX h)
theorem LJ.sld (C : lOK z l b L xs D d dL a a2) {k : Nat} (hk : k < L) (hL : L ≤ 3072) (hdg : decode cL_law pc = .ok (.iaload, 1)) (kk : LJ z V Ln V2 Ln2 (pc + 1) i (.int (xs k) :: st)) : LJ z V Ln V2 Ln2 pc i (.int (nI k) :: .ref b :: st) := by
  obtain ⟨hx, hb, -, -, -, -, -, hsc, hbl, -, -, rfl, rfl, rfl, -⟩ := C
  refine fun f g f2 g2 H locs ls h1 h2 hX h => va_sld hx hb hsc hbl (Nat.not_le_of_lt hbl) hX.2.2.2.2.2 (vp_in_nI hk (by omega)) hdg ?_
  rw [nI_clamp (by omega)]
  exact kk f g f2 g2 H locs ls h1 h2 hX h
theorem LJ.slen (C : lOK z l b L xs D d dL a a2) (hdg : decode cL_law pc = .ok (.arraylength, 1)) (kk : LJ z V Ln V2 Ln2 (pc + 1) i (.int (nI L) :: st)) : LJ z V Ln V2 Ln2 pc i (.ref b :: st) := by
  obtain ⟨hx, hb, -, -, -, -, -, hsc, hbl, -, -, rfl, rfl, rfl, -⟩ := C
  exact fun f g f2 g2 H locs ls h1 h2 hX h => va_slen hx hb hsc hbl (Nat.not_le_of_lt hbl) hX.2.2.2.2.2 hdg (kk f g f2 g2 H locs ls h1 h2 hX h)
theorem LJ.inc6 (C : lOK z l b L xs D d dL a a2) (hdg : decode cL_law pc = .ok (.iinc 3 6, 3)) (kk : LJ z V Ln V2 Ln2 (pc + 3) (i + 6) st) : LJ z V Ln V2 Ln2 pc i st := fun f g f2 g2 H locs ls h1 h2 hX h => lv_iinc (v := nI (i + 6)) (lv' := [(3, .int (nI (i + 6))), (0, .ref _), (1, .ref _), (2, .ref _)]) C.1 C.2.1 hdg h (k := 3) rfl (nI_add i 6) (by decide) rfl (fun ls' h' => kk f g f2 g2 H locs ls' h1 h2 hX (lv_sub h' [1, 2, 3, 0] rfl))
theorem LJ.tin (C : lOK z l b L xs D d dL a a2) {dflt lo hi : Int} {offs : Array Int} {len : Nat} {x : Int32} {off : Int} {tgt : Nat} (hdg : decode cL_law pc = .ok (.tableswitch dflt lo hi offs, len)) (h1 : ¬ x.toInt < lo) (h2 : ¬ hi < x.toInt) (ho : offs[(x.toInt - lo).toNat]? = some off) (ht : (pc : Int) + off = (tgt : Int)) (kk : LJ z V Ln V2 Ln2 tgt i st) : LJ z V Ln V2 Ln2 pc i (.int x :: st) := fun f g f2 g2 H locs ls q1 q2 hX h => lv_tableIn C.1 C.2.1 hdg h1 h2 ho ht (kk f g f2 g2 H locs ls q1 q2 hX h)
theorem LJ.tout (C : lOK z l b L xs D d dL a a2) {dflt lo hi : Int} {offs : Array Int} {len : Nat} {x : Int32} {tgt : Nat} (hdg : decode cL_law pc = .ok (.tableswitch dflt lo hi offs, len)) (h : x.toInt < lo ∨ hi < x.toInt) (ht : (pc : Int) + dflt = (tgt : Int)) (kk : LJ z V Ln V2 Ln2 tgt i st) : LJ z V Ln V2 Ln2 pc i (.int x :: st) := fun f g f2 g2 H locs ls q1 q2 hX hl => lv_tableOut C.1 C.2.1 hdg h ht (kk f g f2 g2 H locs ls q1 q2 hX hl)
theorem LJ.ret1 (C : lOK z l b L xs D d dL a a2) (hdg : decode cL_law pc = .ok (.ireturn, 1)) : LJ z V Ln V2 Ln2 pc i [.int 1] := by
  obtain ⟨hx, hb, -, -, -, hlk, hret, -⟩ := C
  intro f g f2 g2 H locs ls h1 h2 hX h
  refine va_forget (fun q hq => hX.2.2.2.2.2.2.2 q hq) ?_
  refine W.widen (k := 600000) (n := 7290000) (by decide) (by decide) ?_
  exact lw_ret hx hb hret hlk hdg
theorem gw_kept {D : va_G} {ci : Nat} {d dL : ClassId} {a : Nat → Nat} {f : gF} {g : gG} {H H1 : Heap} {A1 : Nat → Prop} (hP : va_P D vwCl (gw ci d dL a f g) H) (hk : ∀ q : Nat, q < H.size → ¬ A1 q → H1[q]? = H[q]?) (hn : ∀ k, k < 13 → ¬ A1 (a k)) : va_P D vwCl (gw ci d dL a f g) H1 := hP.kept (fun k q hq => by
  obtain ⟨h1, h2⟩ := gw_in hq
  exact hk _ (hP k q hq).lt (by rw [h2]; exact hn k h1))
/-- a call of the class -/
theorem LJ.callX (C : lOK z l b L xs D d dL a a2) {y : MethodName} {cc' : ByteArray} {L' : Nat} {ret' : Option FieldType} {fr lo idx : Nat} {As rest : List Value} {Rv' : Option Value → gF → gG → Prop} (hM : ∀ (f : gF) (g : gG), XI V Ln f → gMet l y cc' L' ret' fr lo D d dL 0 a (.ref (a 0) :: As) f g Rv')
    (h1 : Cond.methodLink R_law idx y ∈ lw_all) (h2 : Cond.instanceMethod y ∈ lw_all) (h3 : Cond.selects RX0 y y ∈ lw_all) (h3' : Cond.initialized RX0 ∈ lw_all) (h4 : Cond.code y cc' L' ret' ∈ lw_all) (hd : y.cls = RX0 ∧ y.cls ≠ "java/lang/invoke/MethodHandle" ∧ y.cls ≠ "java/lang/invoke/VarHandle" ∧ (parseMethodDescriptor y.desc).map (fun d => d.parameters.length) = some As.length) (hR : fr + 1 ≤ 6 ∧ 8 + (L' + 11) + lo ≤ 198)
    (hst : st = As.reverse ++ .ref (a 0) :: rest) (hW : (rest.map fun v => v.category).sum ≤ 8) (hdg : decode cL_law pc = .ok (.invokevirtual idx, 3)) (kk : ∀ (v : Option Value) (f' : gF) (g' : gG), Rv' v f' g' → ∃ (V' : Nat → Nat) (Ln' : Nat), XI V' Ln' f' ∧ LJ z V' Ln' V2 Ln2 (pc + 3) i (v.toList ++ rest)) : LJ z V Ln V2 Ln2 pc i st := by
  obtain ⟨hx, hb, hown, hts, hml, -, -, -, -, hap, rfl, rfl, rfl, rfl, rfl, rfl, rfl, rfl, rfl⟩ := C
  intro f g f2 g2 H locs ls hXI hMI hX hl T hT X
  obtain ⟨hK, hP1, hP2, hD1, hD2, hS⟩ := hX
  obtain ⟨v, st₀, t, T', Lc, h0, X', hL, e1, e2, ⟨⟨v', f', g', hv, hp, hbb⟩, hz, hk⟩, stp⟩ := va_runV (As := As) (rest := rest) (nL := 4) (R := room_1) (g := F0 z.1.2.2.2.2 pc ls st) ⟨hx, hb, hml, hown, hts⟩ (hM f g hXI) (cwV As.length hts (lw_V h1 h2 h3 h3' h4) rfl rfl rfl hd hR) ⟨gP_blind, va_recv hK hP1 (show vwCl[0]? = some (RX0, TX0, 12) from rfl) gw_at0, fun U hU hWm => ⟨rfl, by rw [hU]; exact hP1, va_K.moved hWm.alike hK, hD1.weaken (fun _ _ _ _ => trivial)⟩⟩ rfl rfl hl.1 hst (lv_room hW) hdg ⟨show 26 ≤ 600000 by decide, show 571 ≤ 7290000 by decide⟩ T hT X
  cases hv
  rw [h0] at hz hk
  have hAa := gw_A hD1
  obtain ⟨V', Ln', hXI', kk'⟩ := kk v f' g' hp
  obtain ⟨t2, a1, b1⟩ := kk' f' g' f2 g2 T'.heap (locs ++ Lc) ls hXI' hMI ⟨hK, by rw [e1]; exact hbb.1, by rw [e1]; exact gw_kept hP2 hk (fun k hk1 ⟨j, hj, e⟩ => hap j k hj hk1 e.symm), (gw_D hbb.2.2).weaken (fun _ _ _ h => hAa _ h), hD2, Nat.le_trans hS.1 (by rw [e1]; exact hz), fun q q1 q2 => by rw [e1, hk q (Nat.lt_of_lt_of_le q1 hS.1) (fun w => q2 (hAa _ w))]; exact hS.2.1 q q1 q2, fun q hq => by
      rcases List.mem_append.mp hq with h | h
      · exact hS.2.2 q h
      · exact hAa _ (hL q h)⟩ hl T' rfl X'
  exact ⟨t2, stp t2 a1, b1⟩
/-- a call of the reference -/
theorem LJ.callM (C : lOK z l b L xs D d dL a a2) {y : MethodName} {cc' : ByteArray} {L' : Nat} {ret' : Option FieldType} {fr lo idx : Nat} {As rest : List Value} {Rv' : Option Value → gF → gG → Prop} (hM : ∀ (f : gF) (g : gG), MI V2 Ln2 f → gMet l y cc' L' ret' fr lo D d dL 1 a2 (.ref (a2 0) :: As) f g Rv')
    (h1 : Cond.methodLink R_law idx y ∈ lw_all) (h2 : Cond.instanceMethod y ∈ lw_all) (h3 : Cond.selects RX1 y y ∈ lw_all) (h3' : Cond.initialized RX1 ∈ lw_all) (h4 : Cond.code y cc' L' ret' ∈ lw_all) (hd : y.cls = RX1 ∧ y.cls ≠ "java/lang/invoke/MethodHandle" ∧ y.cls ≠ "java/lang/invoke/VarHandle" ∧ (parseMethodDescriptor y.desc).map (fun d => d.parameters.length) = some As.length) (hR : fr + 1 ≤ 6 ∧ 8 + (L' + 11) + lo ≤ 198)
    (hst : st = As.reverse ++ .ref (a2 0) :: rest) (hW : (rest.map fun v => v.category).sum ≤ 8) (hdg : decode cL_law pc = .ok (.invokevirtual idx, 3)) (kk : ∀ (v : Option Value) (f' : gF) (g' : gG), Rv' v f' g' → ∃ (V' : Nat → Nat) (Ln' : Nat), MI V' Ln' f' ∧ LJ z V Ln V' Ln' (pc + 3) i (v.toList ++ rest)) : LJ z V Ln V2 Ln2 pc i st := by
  obtain ⟨hx, hb, hown, hts, hml, -, -, -, -, hap, rfl, rfl, rfl, rfl, rfl, rfl, rfl, rfl, rfl⟩ := C
  intro f g f2 g2 H locs ls hXI hMI hX hl T hT X
  obtain ⟨hK, hP1, hP2, hD1, hD2, hS⟩ := hX
  obtain ⟨v, st₀, t, T', Lc, h0, X', hL, e1, e2, ⟨⟨v', f', g', hv, hp, hbb⟩, hz, hk⟩, stp⟩ := va_runV (As := As) (rest := rest) (nL := 4) (R := room_1) (g := F0 z.1.2.2.2.2 pc ls st) ⟨hx, hb, hml, hown, hts⟩ (hM f2 g2 hMI) (cwV As.length hts (lw_V h1 h2 h3 h3' h4) rfl rfl rfl hd hR) ⟨gP_blind, va_recv hK hP2 (show vwCl[1]? = some (RX1, TX1, 12) from rfl) gw_at0, fun U hU hWm => ⟨rfl, by rw [hU]; exact hP2, va_K.moved hWm.alike hK, hD2.weaken (fun _ _ _ _ => trivial)⟩⟩ rfl rfl hl.1 hst (lv_room hW) hdg ⟨show 26 ≤ 600000 by decide, show 571 ≤ 7290000 by decide⟩ T hT X
  cases hv
  rw [h0] at hz hk
  have hAa := gw_A hD2
  obtain ⟨V', Ln', hMI', kk'⟩ := kk v f' g' hp
  obtain ⟨t2, a1, b1⟩ := kk' f g f' g' T'.heap (locs ++ Lc) ls hXI hMI' ⟨hK, by rw [e1]; exact gw_kept hP1 hk (fun k hk1 ⟨j, hj, e⟩ => hap k j hk1 hj e), by rw [e1]; exact hbb.1, hD1, (gw_D hbb.2.2).weaken (fun _ _ _ h => hAa _ h), Nat.le_trans hS.1 (by rw [e1]; exact hz), fun q q1 q2 => by rw [e1, hk q (Nat.lt_of_lt_of_le q1 hS.1) (fun w => q2 (hAa _ w))]; exact hS.2.1 q q1 q2, fun q hq => by
      rcases List.mem_append.mp hq with h | h
      · exact hS.2.2 q h
      · exact hAa _ (hL q h)⟩ hl T' rfl X'
  exact ⟨t2, stp t2 a1, b1⟩
end LRules
end Lfr
end
section
section Law
theorem law_gt {i L : Nat} (hL : L ≤ 3072) (hi : i ≤ 3072) : iI ((L : Int) - (6 : Nat)) < nI i ↔ L < i + 6 := by
  rw [Int32.lt_iff_toInt_lt, iI_toInt (by omega) (by omega), nI_toInt (by omega)]
  omega
theorem inv_uniq {p X Y : Nat} (h0 : p ≠ 0) (lp : p < PP) (lX : X < PP) (lY : Y < PP) (eX : (X * p) % PP = 1) (eY : (Y * p) % PP = 1) : X = Y := by
  have := md_cancel (PP_cop (Nat.pos_of_ne_zero h0) lp) (eX.trans eY.symm)
  rwa [Nat.mod_eq_of_lt lX, Nat.mod_eq_of_lt lY] at this
set_option maxHeartbeats 8000000 in
set_option maxRecDepth 100000 in
theorem law_loop {z : lZ} {l : Launch} {b L : Nat} {xs : Nat → Int32} {D : va_G} {d dL : ClassId} {a a2 : Nat → Nat} (C : lOK z l b L xs D d dL a a2) (hL : L ≤ 3072) : ∀ (n i : Nat) (V : Nat → Nat) (Ln : Nat), VOK V → i ≤ L → L < i + n → LJ z V Ln V Ln 18 i [] := by
  intro n
  induction n with
  | zero => intro i V Ln hV h1 h2; exact absurd h2 (by omega)
  | succ n ih =>
    intro i V Ln hV hi hn
    refine LJ.ldI C dL_law_18 ?_
    refine LJ.scr C dL_law_19 ?_
    refine LJ.slen C dL_law_20 ?_
    refine LJ.bipush (v := nI 6) C dL_law_21 (by decide) ?_
    refine LJ.isub C dL_law_23 ?_
    refine LJ.eqi (nI_sub _ _) ?_
    refine LJ.icmp_gt (tgt := 602) C dL_law_24 (by decide) (fun c => ?_) (fun c => ?_)
    · refine LJ.iconst (v := 1) C dL_law_602 (by decide) ?_
      exact LJ.ret1 C dL_law_603
    have h6 : i + 6 ≤ L := by
      have := mt (law_gt hL (by omega)).mpr c
      omega
    have hback : ∀ (V' : Nat → Nat) (Ln' : Nat), VOK V' → LJ z V' Ln' V' Ln' 596 i [] := by
      intro V' Ln' hV'
      refine LJ.inc6 C dL_law_596 ?_
      refine LJ.goto (tgt := 18) C dL_law_599 (by decide) ?_
      exact ih (i + 6) V' Ln' hV' h6 (by omega)
    refine LJ.scr C dL_law_27 ?_
    refine LJ.ldI C dL_law_28 ?_
    refine LJ.sld C (by omega) hL dL_law_29 ?_
    refine LJ.bipush (v := nI 15) C dL_law_30 (by decide) ?_
    refine LJ.iand C dL_law_32 ?_
    refine LJ.eqi (w_and15 _) ?_
    have hj : un (xs i) % 16 < 16 := Nat.mod_lt _ (by decide)
    generalize un (xs i) % 16 = j at hj ⊢
    rcases (show j = 0 ∨ j = 1 ∨ j = 2 ∨ j = 3 ∨ j = 4 ∨ j = 5 ∨ j = 6 ∨ j = 7 ∨ j = 8 ∨ j = 9 ∨ j = 10 ∨ j = 11 ∨ j = 12 ∨ j = 13 ∨ j = 14 ∨ j = 15 by omega) with rfl | rfl | rfl | rfl | rfl | rfl | rfl | rfl | rfl | rfl | rfl | rfl | rfl | rfl | rfl | rfl
    · refine LJ.tin (off := 71) (tgt := 104) C dL_law_33 (by decide) (by decide) rfl (by decide) ?_
      refine LJ.ldX C dL_law_104 ?_
      refine LJ.scr C dL_law_105 ?_
      refine LJ.ldI C dL_law_106 ?_
      refine LJ.iconst (v := nI 1) C dL_law_107 (by decide) ?_
      refine LJ.iadd C dL_law_108 ?_
      refine LJ.eqi (w_add _ _) ?_
      refine LJ.sld C (by omega) hL dL_law_109 ?_
      refine LJ.scr C dL_law_110 ?_
      refine LJ.ldI C dL_law_111 ?_
      refine LJ.iconst (v := nI 2) C dL_law_112 (by decide) ?_
      refine LJ.iadd C dL_law_113 ?_
      refine LJ.eqi (w_add _ _) ?_
      refine LJ.sld C (by omega) hL dL_law_114 ?_
      refine LJ.scr C dL_law_115 ?_
      refine LJ.ldI C dL_law_116 ?_
      refine LJ.iconst (v := nI 3) C dL_law_117 (by decide) ?_
      refine LJ.iadd C dL_law_118 ?_
      refine LJ.eqi (w_add _ _) ?_
      refine LJ.sld C (by omega) hL dL_law_119 ?_
      refine LJ.scr C dL_law_120 ?_
      refine LJ.ldI C dL_law_121 ?_
      refine LJ.iconst (v := nI 4) C dL_law_122 (by decide) ?_
      refine LJ.iadd C dL_law_123 ?_
      refine LJ.eqi (w_add _ _) ?_
      refine LJ.sld C (by omega) hL dL_law_124 ?_
      refine LJ.scr C dL_law_125 ?_
      refine LJ.ldI C dL_law_126 ?_
      refine LJ.iconst (v := nI 5) C dL_law_127 (by decide) ?_
      refine LJ.iadd C dL_law_128 ?_
      refine LJ.eqi (w_add _ _) ?_
      refine LJ.sld C (by omega) hL dL_law_129 ?_
      refine LJ.callX (rest := []) C (fun f g hI => x_line hI hV) q81 q82 q83 q18 q84 (by show _ = _ ∧ _ ≠ _ ∧ _ ≠ _ ∧ _ = some 5; decide +kernel) ⟨by decide, by decide⟩ rfl (Nat.le_of_ble_eq_true rfl) dL_law_130 (fun v f' g' hR => ?_)
      obtain ⟨rfl, hXI⟩ := hR
      refine ⟨_, _, hXI, ?_⟩
      refine LJ.eqs (st' := []) rfl ?_
      refine LJ.ldM C dL_law_133 ?_
      refine LJ.scr C dL_law_134 ?_
      refine LJ.ldI C dL_law_135 ?_
      refine LJ.iconst (v := nI 1) C dL_law_136 (by decide) ?_
      refine LJ.iadd C dL_law_137 ?_
      refine LJ.eqi (w_add _ _) ?_
      refine LJ.sld C (by omega) hL dL_law_138 ?_
      refine LJ.scr C dL_law_139 ?_
      refine LJ.ldI C dL_law_140 ?_
      refine LJ.iconst (v := nI 2) C dL_law_141 (by decide) ?_
      refine LJ.iadd C dL_law_142 ?_
      refine LJ.eqi (w_add _ _) ?_
      refine LJ.sld C (by omega) hL dL_law_143 ?_
      refine LJ.scr C dL_law_144 ?_
      refine LJ.ldI C dL_law_145 ?_
      refine LJ.iconst (v := nI 3) C dL_law_146 (by decide) ?_
      refine LJ.iadd C dL_law_147 ?_
      refine LJ.eqi (w_add _ _) ?_
      refine LJ.sld C (by omega) hL dL_law_148 ?_
      refine LJ.scr C dL_law_149 ?_
      refine LJ.ldI C dL_law_150 ?_
      refine LJ.iconst (v := nI 4) C dL_law_151 (by decide) ?_
      refine LJ.iadd C dL_law_152 ?_
      refine LJ.eqi (w_add _ _) ?_
      refine LJ.sld C (by omega) hL dL_law_153 ?_
      refine LJ.scr C dL_law_154 ?_
      refine LJ.ldI C dL_law_155 ?_
      refine LJ.iconst (v := nI 5) C dL_law_156 (by decide) ?_
      refine LJ.iadd C dL_law_157 ?_
      refine LJ.eqi (w_add _ _) ?_
      refine LJ.sld C (by omega) hL dL_law_158 ?_
      refine LJ.callM (rest := []) C (fun f g hI => m_line hI hV) q222 q223 q224 q19 q225 (by show _ = _ ∧ _ ≠ _ ∧ _ ≠ _ ∧ _ = some 5; decide +kernel) ⟨by decide, by decide⟩ rfl (Nat.le_of_ble_eq_true rfl) dL_law_159 (fun v f' g' hR => ?_)
      obtain ⟨rfl, hMI⟩ := hR
      refine ⟨_, _, hMI, ?_⟩
      refine LJ.eqs (st' := []) rfl ?_
      refine LJ.goto (tgt := 596) C dL_law_162 (by decide) ?_
      exact hback _ _ (hV)
    · refine LJ.tin (off := 132) (tgt := 165) C dL_law_33 (by decide) (by decide) rfl (by decide) ?_
      refine LJ.ldX C dL_law_165 ?_
      refine LJ.scr C dL_law_166 ?_
      refine LJ.ldI C dL_law_167 ?_
      refine LJ.iconst (v := nI 1) C dL_law_168 (by decide) ?_
      refine LJ.iadd C dL_law_169 ?_
      refine LJ.eqi (w_add _ _) ?_
      refine LJ.sld C (by omega) hL dL_law_170 ?_
      refine LJ.callX (rest := []) C (fun f g hI => x_load hI hV) q86 q87 q88 q18 q89 (by show _ = _ ∧ _ ≠ _ ∧ _ ≠ _ ∧ _ = some 1; decide +kernel) ⟨by decide, by decide⟩ rfl (Nat.le_of_ble_eq_true rfl) dL_law_171 (fun v f' g' hR => ?_)
      obtain ⟨rfl, hXI⟩ := hR
      refine ⟨_, _, hXI, ?_⟩
      refine LJ.eqs (st' := [.int _]) rfl ?_
      refine LJ.ldM C dL_law_174 ?_
      refine LJ.scr C dL_law_175 ?_
      refine LJ.ldI C dL_law_176 ?_
      refine LJ.iconst (v := nI 1) C dL_law_177 (by decide) ?_
      refine LJ.iadd C dL_law_178 ?_
      refine LJ.eqi (w_add _ _) ?_
      refine LJ.sld C (by omega) hL dL_law_179 ?_
      refine LJ.callM (rest := [.int _]) C (fun f g hI => m_load hI hV) q227 q228 q229 q19 q230 (by show _ = _ ∧ _ ≠ _ ∧ _ ≠ _ ∧ _ = some 1; decide +kernel) ⟨by decide, by decide⟩ rfl (Nat.le_of_ble_eq_true rfl) dL_law_180 (fun v f' g' hR => ?_)
      obtain ⟨rfl, hMI⟩ := hR
      refine ⟨_, _, hMI, ?_⟩
      refine LJ.eqs (st' := [.int _, .int _]) rfl ?_
      refine LJ.icmp_eq (tgt := 596) C dL_law_183 (by decide) rfl ?_
      exact hback _ _ (hV.up (Nat.mod_lt _ PP_pos) _)
    · refine LJ.tin (off := 155) (tgt := 188) C dL_law_33 (by decide) (by decide) rfl (by decide) ?_
      refine LJ.ldX C dL_law_188 ?_
      refine LJ.scr C dL_law_189 ?_
      refine LJ.ldI C dL_law_190 ?_
      refine LJ.iconst (v := nI 1) C dL_law_191 (by decide) ?_
      refine LJ.iadd C dL_law_192 ?_
      refine LJ.eqi (w_add _ _) ?_
      refine LJ.sld C (by omega) hL dL_law_193 ?_
      refine LJ.scr C dL_law_194 ?_
      refine LJ.ldI C dL_law_195 ?_
      refine LJ.iconst (v := nI 2) C dL_law_196 (by decide) ?_
      refine LJ.iadd C dL_law_197 ?_
      refine LJ.eqi (w_add _ _) ?_
      refine LJ.sld C (by omega) hL dL_law_198 ?_
      refine LJ.callX (rest := []) C (fun f g hI => x_word hI hV) q94 q95 q96 q18 q97 (by show _ = _ ∧ _ ≠ _ ∧ _ ≠ _ ∧ _ = some 2; decide +kernel) ⟨by decide, by decide⟩ rfl (Nat.le_of_ble_eq_true rfl) dL_law_199 (fun v f' g' hR => ?_)
      obtain ⟨rfl, hXI⟩ := hR
      refine ⟨_, _, hXI, ?_⟩
      refine LJ.eqs (st' := [.int _]) rfl ?_
      refine LJ.ldM C dL_law_202 ?_
      refine LJ.scr C dL_law_203 ?_
      refine LJ.ldI C dL_law_204 ?_
      refine LJ.iconst (v := nI 1) C dL_law_205 (by decide) ?_
      refine LJ.iadd C dL_law_206 ?_
      refine LJ.eqi (w_add _ _) ?_
      refine LJ.sld C (by omega) hL dL_law_207 ?_
      refine LJ.scr C dL_law_208 ?_
      refine LJ.ldI C dL_law_209 ?_
      refine LJ.iconst (v := nI 2) C dL_law_210 (by decide) ?_
      refine LJ.iadd C dL_law_211 ?_
      refine LJ.eqi (w_add _ _) ?_
      refine LJ.sld C (by omega) hL dL_law_212 ?_
      refine LJ.callM (rest := [.int _]) C (fun f g hI => m_word hI hV) q239 q240 q241 q19 q242 (by show _ = _ ∧ _ ≠ _ ∧ _ ≠ _ ∧ _ = some 2; decide +kernel) ⟨by decide, by decide⟩ rfl (Nat.le_of_ble_eq_true rfl) dL_law_213 (fun v f' g' hR => ?_)
      obtain ⟨rfl, hMI⟩ := hR
      refine ⟨_, _, hMI, ?_⟩
      refine LJ.eqs (st' := [.int _, .int _]) rfl ?_
      refine LJ.icmp_eq (tgt := 596) C dL_law_216 (by decide) rfl ?_
      exact hback _ _ (hV)
    · refine LJ.tin (off := 188) (tgt := 221) C dL_law_33 (by decide) (by decide) rfl (by decide) ?_
      refine LJ.ldX C dL_law_221 ?_
      refine LJ.scr C dL_law_222 ?_
      refine LJ.ldI C dL_law_223 ?_
      refine LJ.iconst (v := nI 1) C dL_law_224 (by decide) ?_
      refine LJ.iadd C dL_law_225 ?_
      refine LJ.eqi (w_add _ _) ?_
      refine LJ.sld C (by omega) hL dL_law_226 ?_
      refine LJ.scr C dL_law_227 ?_
      refine LJ.ldI C dL_law_228 ?_
      refine LJ.iconst (v := nI 2) C dL_law_229 (by decide) ?_
      refine LJ.iadd C dL_law_230 ?_
      refine LJ.eqi (w_add _ _) ?_
      refine LJ.sld C (by omega) hL dL_law_231 ?_
      refine LJ.scr C dL_law_232 ?_
      refine LJ.ldI C dL_law_233 ?_
      refine LJ.iconst (v := nI 3) C dL_law_234 (by decide) ?_
      refine LJ.iadd C dL_law_235 ?_
      refine LJ.eqi (w_add _ _) ?_
      refine LJ.sld C (by omega) hL dL_law_236 ?_
      refine LJ.callX (rest := []) C (fun f g hI => x_add hI hV) q98 q99 q100 q18 q101 (by show _ = _ ∧ _ ≠ _ ∧ _ ≠ _ ∧ _ = some 3; decide +kernel) ⟨by decide, by decide⟩ rfl (Nat.le_of_ble_eq_true rfl) dL_law_237 (fun v f' g' hR => ?_)
      obtain ⟨rfl, hXI⟩ := hR
      refine ⟨_, _, hXI, ?_⟩
      refine LJ.eqs (st' := []) rfl ?_
      refine LJ.ldM C dL_law_240 ?_
      refine LJ.scr C dL_law_241 ?_
      refine LJ.ldI C dL_law_242 ?_
      refine LJ.iconst (v := nI 1) C dL_law_243 (by decide) ?_
      refine LJ.iadd C dL_law_244 ?_
      refine LJ.eqi (w_add _ _) ?_
      refine LJ.sld C (by omega) hL dL_law_245 ?_
      refine LJ.scr C dL_law_246 ?_
      refine LJ.ldI C dL_law_247 ?_
      refine LJ.iconst (v := nI 2) C dL_law_248 (by decide) ?_
      refine LJ.iadd C dL_law_249 ?_
      refine LJ.eqi (w_add _ _) ?_
      refine LJ.sld C (by omega) hL dL_law_250 ?_
      refine LJ.scr C dL_law_251 ?_
      refine LJ.ldI C dL_law_252 ?_
      refine LJ.iconst (v := nI 3) C dL_law_253 (by decide) ?_
      refine LJ.iadd C dL_law_254 ?_
      refine LJ.eqi (w_add _ _) ?_
      refine LJ.sld C (by omega) hL dL_law_255 ?_
      refine LJ.callM (rest := []) C (fun f g hI => m_add hI hV) q243 q244 q245 q19 q246 (by show _ = _ ∧ _ ≠ _ ∧ _ ≠ _ ∧ _ = some 3; decide +kernel) ⟨by decide, by decide⟩ rfl (Nat.le_of_ble_eq_true rfl) dL_law_256 (fun v f' g' hR => ?_)
      obtain ⟨rfl, hMI⟩ := hR
      refine ⟨_, _, hMI, ?_⟩
      refine LJ.eqs (st' := []) rfl ?_
      refine LJ.goto (tgt := 596) C dL_law_259 (by decide) ?_
      exact hback _ _ (hV.up (Nat.mod_lt _ PP_pos) _)
    · refine LJ.tin (off := 229) (tgt := 262) C dL_law_33 (by decide) (by decide) rfl (by decide) ?_
      refine LJ.ldX C dL_law_262 ?_
      refine LJ.scr C dL_law_263 ?_
      refine LJ.ldI C dL_law_264 ?_
      refine LJ.iconst (v := nI 1) C dL_law_265 (by decide) ?_
      refine LJ.iadd C dL_law_266 ?_
      refine LJ.eqi (w_add _ _) ?_
      refine LJ.sld C (by omega) hL dL_law_267 ?_
      refine LJ.scr C dL_law_268 ?_
      refine LJ.ldI C dL_law_269 ?_
      refine LJ.iconst (v := nI 2) C dL_law_270 (by decide) ?_
      refine LJ.iadd C dL_law_271 ?_
      refine LJ.eqi (w_add _ _) ?_
      refine LJ.sld C (by omega) hL dL_law_272 ?_
      refine LJ.scr C dL_law_273 ?_
      refine LJ.ldI C dL_law_274 ?_
      refine LJ.iconst (v := nI 3) C dL_law_275 (by decide) ?_
      refine LJ.iadd C dL_law_276 ?_
      refine LJ.eqi (w_add _ _) ?_
      refine LJ.sld C (by omega) hL dL_law_277 ?_
      refine LJ.callX (rest := []) C (fun f g hI => x_subtract hI hV) q106 q107 q108 q18 q109 (by show _ = _ ∧ _ ≠ _ ∧ _ ≠ _ ∧ _ = some 3; decide +kernel) ⟨by decide, by decide⟩ rfl (Nat.le_of_ble_eq_true rfl) dL_law_278 (fun v f' g' hR => ?_)
      obtain ⟨rfl, hXI⟩ := hR
      refine ⟨_, _, hXI, ?_⟩
      refine LJ.eqs (st' := []) rfl ?_
      refine LJ.ldM C dL_law_281 ?_
      refine LJ.scr C dL_law_282 ?_
      refine LJ.ldI C dL_law_283 ?_
      refine LJ.iconst (v := nI 1) C dL_law_284 (by decide) ?_
      refine LJ.iadd C dL_law_285 ?_
      refine LJ.eqi (w_add _ _) ?_
      refine LJ.sld C (by omega) hL dL_law_286 ?_
      refine LJ.scr C dL_law_287 ?_
      refine LJ.ldI C dL_law_288 ?_
      refine LJ.iconst (v := nI 2) C dL_law_289 (by decide) ?_
      refine LJ.iadd C dL_law_290 ?_
      refine LJ.eqi (w_add _ _) ?_
      refine LJ.sld C (by omega) hL dL_law_291 ?_
      refine LJ.scr C dL_law_292 ?_
      refine LJ.ldI C dL_law_293 ?_
      refine LJ.iconst (v := nI 3) C dL_law_294 (by decide) ?_
      refine LJ.iadd C dL_law_295 ?_
      refine LJ.eqi (w_add _ _) ?_
      refine LJ.sld C (by omega) hL dL_law_296 ?_
      refine LJ.callM (rest := []) C (fun f g hI => m_subtract hI hV) q255 q256 q257 q19 q258 (by show _ = _ ∧ _ ≠ _ ∧ _ ≠ _ ∧ _ = some 3; decide +kernel) ⟨by decide, by decide⟩ rfl (Nat.le_of_ble_eq_true rfl) dL_law_297 (fun v f' g' hR => ?_)
      obtain ⟨rfl, hMI⟩ := hR
      refine ⟨_, _, hMI, ?_⟩
      refine LJ.eqs (st' := []) rfl ?_
      refine LJ.goto (tgt := 596) C dL_law_300 (by decide) ?_
      exact hback _ _ (hV.up (Nat.mod_lt _ PP_pos) _)
    · refine LJ.tin (off := 270) (tgt := 303) C dL_law_33 (by decide) (by decide) rfl (by decide) ?_
      refine LJ.ldX C dL_law_303 ?_
      refine LJ.scr C dL_law_304 ?_
      refine LJ.ldI C dL_law_305 ?_
      refine LJ.iconst (v := nI 1) C dL_law_306 (by decide) ?_
      refine LJ.iadd C dL_law_307 ?_
      refine LJ.eqi (w_add _ _) ?_
      refine LJ.sld C (by omega) hL dL_law_308 ?_
      refine LJ.scr C dL_law_309 ?_
      refine LJ.ldI C dL_law_310 ?_
      refine LJ.iconst (v := nI 2) C dL_law_311 (by decide) ?_
      refine LJ.iadd C dL_law_312 ?_
      refine LJ.eqi (w_add _ _) ?_
      refine LJ.sld C (by omega) hL dL_law_313 ?_
      refine LJ.scr C dL_law_314 ?_
      refine LJ.ldI C dL_law_315 ?_
      refine LJ.iconst (v := nI 3) C dL_law_316 (by decide) ?_
      refine LJ.iadd C dL_law_317 ?_
      refine LJ.eqi (w_add _ _) ?_
      refine LJ.sld C (by omega) hL dL_law_318 ?_
      refine LJ.callX (rest := []) C (fun f g hI => x_multiply hI hV) q114 q115 q116 q18 q117 (by show _ = _ ∧ _ ≠ _ ∧ _ ≠ _ ∧ _ = some 3; decide +kernel) ⟨by decide, by decide⟩ rfl (Nat.le_of_ble_eq_true rfl) dL_law_319 (fun v f' g' hR => ?_)
      obtain ⟨rfl, hXI⟩ := hR
      refine ⟨_, _, hXI, ?_⟩
      refine LJ.eqs (st' := []) rfl ?_
      refine LJ.ldM C dL_law_322 ?_
      refine LJ.scr C dL_law_323 ?_
      refine LJ.ldI C dL_law_324 ?_
      refine LJ.iconst (v := nI 1) C dL_law_325 (by decide) ?_
      refine LJ.iadd C dL_law_326 ?_
      refine LJ.eqi (w_add _ _) ?_
      refine LJ.sld C (by omega) hL dL_law_327 ?_
      refine LJ.scr C dL_law_328 ?_
      refine LJ.ldI C dL_law_329 ?_
      refine LJ.iconst (v := nI 2) C dL_law_330 (by decide) ?_
      refine LJ.iadd C dL_law_331 ?_
      refine LJ.eqi (w_add _ _) ?_
      refine LJ.sld C (by omega) hL dL_law_332 ?_
      refine LJ.scr C dL_law_333 ?_
      refine LJ.ldI C dL_law_334 ?_
      refine LJ.iconst (v := nI 3) C dL_law_335 (by decide) ?_
      refine LJ.iadd C dL_law_336 ?_
      refine LJ.eqi (w_add _ _) ?_
      refine LJ.sld C (by omega) hL dL_law_337 ?_
      refine LJ.callM (rest := []) C (fun f g hI => m_multiply hI hV) q267 q268 q269 q19 q270 (by show _ = _ ∧ _ ≠ _ ∧ _ ≠ _ ∧ _ = some 3; decide +kernel) ⟨by decide, by decide⟩ rfl (Nat.le_of_ble_eq_true rfl) dL_law_338 (fun v f' g' hR => ?_)
      obtain ⟨rfl, hMI⟩ := hR
      refine ⟨_, _, hMI, ?_⟩
      refine LJ.eqs (st' := []) rfl ?_
      refine LJ.goto (tgt := 596) C dL_law_341 (by decide) ?_
      exact hback _ _ (hV.up (Nat.mod_lt _ PP_pos) _)
    · refine LJ.tin (off := 311) (tgt := 344) C dL_law_33 (by decide) (by decide) rfl (by decide) ?_
      refine LJ.ldX C dL_law_344 ?_
      refine LJ.scr C dL_law_345 ?_
      refine LJ.ldI C dL_law_346 ?_
      refine LJ.iconst (v := nI 1) C dL_law_347 (by decide) ?_
      refine LJ.iadd C dL_law_348 ?_
      refine LJ.eqi (w_add _ _) ?_
      refine LJ.sld C (by omega) hL dL_law_349 ?_
      refine LJ.scr C dL_law_350 ?_
      refine LJ.ldI C dL_law_351 ?_
      refine LJ.iconst (v := nI 2) C dL_law_352 (by decide) ?_
      refine LJ.iadd C dL_law_353 ?_
      refine LJ.eqi (w_add _ _) ?_
      refine LJ.sld C (by omega) hL dL_law_354 ?_
      refine LJ.callX (rest := []) C (fun f g hI => x_square hI hV) q126 q127 q128 q18 q129 (by show _ = _ ∧ _ ≠ _ ∧ _ ≠ _ ∧ _ = some 2; decide +kernel) ⟨by decide, by decide⟩ rfl (Nat.le_of_ble_eq_true rfl) dL_law_355 (fun v f' g' hR => ?_)
      obtain ⟨rfl, hXI⟩ := hR
      refine ⟨_, _, hXI, ?_⟩
      refine LJ.eqs (st' := []) rfl ?_
      refine LJ.ldM C dL_law_358 ?_
      refine LJ.scr C dL_law_359 ?_
      refine LJ.ldI C dL_law_360 ?_
      refine LJ.iconst (v := nI 1) C dL_law_361 (by decide) ?_
      refine LJ.iadd C dL_law_362 ?_
      refine LJ.eqi (w_add _ _) ?_
      refine LJ.sld C (by omega) hL dL_law_363 ?_
      refine LJ.scr C dL_law_364 ?_
      refine LJ.ldI C dL_law_365 ?_
      refine LJ.iconst (v := nI 2) C dL_law_366 (by decide) ?_
      refine LJ.iadd C dL_law_367 ?_
      refine LJ.eqi (w_add _ _) ?_
      refine LJ.sld C (by omega) hL dL_law_368 ?_
      refine LJ.callM (rest := []) C (fun f g hI => m_square hI hV) q275 q276 q277 q19 q278 (by show _ = _ ∧ _ ≠ _ ∧ _ ≠ _ ∧ _ = some 2; decide +kernel) ⟨by decide, by decide⟩ rfl (Nat.le_of_ble_eq_true rfl) dL_law_369 (fun v f' g' hR => ?_)
      obtain ⟨rfl, hMI⟩ := hR
      refine ⟨_, _, hMI, ?_⟩
      refine LJ.eqs (st' := []) rfl ?_
      refine LJ.goto (tgt := 596) C dL_law_372 (by decide) ?_
      exact hback _ _ (hV.up (Nat.mod_lt _ PP_pos) _)
    · refine LJ.tin (off := 342) (tgt := 375) C dL_law_33 (by decide) (by decide) rfl (by decide) ?_
      refine LJ.ldX C dL_law_375 ?_
      refine LJ.scr C dL_law_376 ?_
      refine LJ.ldI C dL_law_377 ?_
      refine LJ.iconst (v := nI 1) C dL_law_378 (by decide) ?_
      refine LJ.iadd C dL_law_379 ?_
      refine LJ.eqi (w_add _ _) ?_
      refine LJ.sld C (by omega) hL dL_law_380 ?_
      refine LJ.scr C dL_law_381 ?_
      refine LJ.ldI C dL_law_382 ?_
      refine LJ.iconst (v := nI 2) C dL_law_383 (by decide) ?_
      refine LJ.iadd C dL_law_384 ?_
      refine LJ.eqi (w_add _ _) ?_
      refine LJ.sld C (by omega) hL dL_law_385 ?_
      refine LJ.scr C dL_law_386 ?_
      refine LJ.ldI C dL_law_387 ?_
      refine LJ.iconst (v := nI 3) C dL_law_388 (by decide) ?_
      refine LJ.iadd C dL_law_389 ?_
      refine LJ.eqi (w_add _ _) ?_
      refine LJ.sld C (by omega) hL dL_law_390 ?_
      refine LJ.callX (rest := []) C (fun f g hI => x_squares hI hV) q131 q132 q133 q18 q134 (by show _ = _ ∧ _ ≠ _ ∧ _ ≠ _ ∧ _ = some 3; decide +kernel) ⟨by decide, by decide⟩ rfl (Nat.le_of_ble_eq_true rfl) dL_law_391 (fun v f' g' hR => ?_)
      obtain ⟨rfl, hXI⟩ := hR
      refine ⟨_, _, hXI, ?_⟩
      refine LJ.eqs (st' := []) rfl ?_
      refine LJ.ldM C dL_law_394 ?_
      refine LJ.scr C dL_law_395 ?_
      refine LJ.ldI C dL_law_396 ?_
      refine LJ.iconst (v := nI 1) C dL_law_397 (by decide) ?_
      refine LJ.iadd C dL_law_398 ?_
      refine LJ.eqi (w_add _ _) ?_
      refine LJ.sld C (by omega) hL dL_law_399 ?_
      refine LJ.scr C dL_law_400 ?_
      refine LJ.ldI C dL_law_401 ?_
      refine LJ.iconst (v := nI 2) C dL_law_402 (by decide) ?_
      refine LJ.iadd C dL_law_403 ?_
      refine LJ.eqi (w_add _ _) ?_
      refine LJ.sld C (by omega) hL dL_law_404 ?_
      refine LJ.scr C dL_law_405 ?_
      refine LJ.ldI C dL_law_406 ?_
      refine LJ.iconst (v := nI 3) C dL_law_407 (by decide) ?_
      refine LJ.iadd C dL_law_408 ?_
      refine LJ.eqi (w_add _ _) ?_
      refine LJ.sld C (by omega) hL dL_law_409 ?_
      refine LJ.callM (rest := []) C (fun f g hI => m_squares hI hV) q279 q280 q281 q19 q282 (by show _ = _ ∧ _ ≠ _ ∧ _ ≠ _ ∧ _ = some 3; decide +kernel) ⟨by decide, by decide⟩ rfl (Nat.le_of_ble_eq_true rfl) dL_law_410 (fun v f' g' hR => ?_)
      obtain ⟨rfl, hMI⟩ := hR
      refine ⟨_, _, hMI, ?_⟩
      refine LJ.eqs (st' := []) rfl ?_
      refine LJ.goto (tgt := 596) C dL_law_413 (by decide) ?_
      exact hback _ _ (hV.up (sqs_lt (hV _ (rg_lt _)) _) _)
    · refine LJ.tin (off := 383) (tgt := 416) C dL_law_33 (by decide) (by decide) rfl (by decide) ?_
      refine LJ.ldX C dL_law_416 ?_
      refine LJ.scr C dL_law_417 ?_
      refine LJ.ldI C dL_law_418 ?_
      refine LJ.iconst (v := nI 1) C dL_law_419 (by decide) ?_
      refine LJ.iadd C dL_law_420 ?_
      refine LJ.eqi (w_add _ _) ?_
      refine LJ.sld C (by omega) hL dL_law_421 ?_
      refine LJ.scr C dL_law_422 ?_
      refine LJ.ldI C dL_law_423 ?_
      refine LJ.iconst (v := nI 2) C dL_law_424 (by decide) ?_
      refine LJ.iadd C dL_law_425 ?_
      refine LJ.eqi (w_add _ _) ?_
      refine LJ.sld C (by omega) hL dL_law_426 ?_
      refine LJ.callX (rest := []) C (fun f g hI => x_twice hI hV) q135 q136 q137 q18 q138 (by show _ = _ ∧ _ ≠ _ ∧ _ ≠ _ ∧ _ = some 2; decide +kernel) ⟨by decide, by decide⟩ rfl (Nat.le_of_ble_eq_true rfl) dL_law_427 (fun v f' g' hR => ?_)
      obtain ⟨rfl, hXI⟩ := hR
      refine ⟨_, _, hXI, ?_⟩
      refine LJ.eqs (st' := []) rfl ?_
      refine LJ.ldM C dL_law_430 ?_
      refine LJ.scr C dL_law_431 ?_
      refine LJ.ldI C dL_law_432 ?_
      refine LJ.iconst (v := nI 1) C dL_law_433 (by decide) ?_
      refine LJ.iadd C dL_law_434 ?_
      refine LJ.eqi (w_add _ _) ?_
      refine LJ.sld C (by omega) hL dL_law_435 ?_
      refine LJ.scr C dL_law_436 ?_
      refine LJ.ldI C dL_law_437 ?_
      refine LJ.iconst (v := nI 2) C dL_law_438 (by decide) ?_
      refine LJ.iadd C dL_law_439 ?_
      refine LJ.eqi (w_add _ _) ?_
      refine LJ.sld C (by omega) hL dL_law_440 ?_
      refine LJ.callM (rest := []) C (fun f g hI => m_twice hI hV) q287 q288 q289 q19 q290 (by show _ = _ ∧ _ ≠ _ ∧ _ ≠ _ ∧ _ = some 2; decide +kernel) ⟨by decide, by decide⟩ rfl (Nat.le_of_ble_eq_true rfl) dL_law_441 (fun v f' g' hR => ?_)
      obtain ⟨rfl, hMI⟩ := hR
      refine ⟨_, _, hMI, ?_⟩
      refine LJ.eqs (st' := []) rfl ?_
      refine LJ.goto (tgt := 596) C dL_law_444 (by decide) ?_
      exact hback _ _ (hV.up (Nat.mod_lt _ PP_pos) _)
    · refine LJ.tin (off := 414) (tgt := 447) C dL_law_33 (by decide) (by decide) rfl (by decide) ?_
      refine LJ.ldX C dL_law_447 ?_
      refine LJ.scr C dL_law_448 ?_
      refine LJ.ldI C dL_law_449 ?_
      refine LJ.iconst (v := nI 1) C dL_law_450 (by decide) ?_
      refine LJ.iadd C dL_law_451 ?_
      refine LJ.eqi (w_add _ _) ?_
      refine LJ.sld C (by omega) hL dL_law_452 ?_
      refine LJ.scr C dL_law_453 ?_
      refine LJ.ldI C dL_law_454 ?_
      refine LJ.iconst (v := nI 2) C dL_law_455 (by decide) ?_
      refine LJ.iadd C dL_law_456 ?_
      refine LJ.eqi (w_add _ _) ?_
      refine LJ.sld C (by omega) hL dL_law_457 ?_
      refine LJ.callX (rest := []) C (fun f g hI => x_halve hI hV) q140 q141 q142 q18 q143 (by show _ = _ ∧ _ ≠ _ ∧ _ ≠ _ ∧ _ = some 2; decide +kernel) ⟨by decide, by decide⟩ rfl (Nat.le_of_ble_eq_true rfl) dL_law_458 (fun v f' g' hR => ?_)
      obtain ⟨rfl, hXI⟩ := hR
      refine ⟨_, _, hXI, ?_⟩
      refine LJ.eqs (st' := []) rfl ?_
      refine LJ.ldM C dL_law_461 ?_
      refine LJ.scr C dL_law_462 ?_
      refine LJ.ldI C dL_law_463 ?_
      refine LJ.iconst (v := nI 1) C dL_law_464 (by decide) ?_
      refine LJ.iadd C dL_law_465 ?_
      refine LJ.eqi (w_add _ _) ?_
      refine LJ.sld C (by omega) hL dL_law_466 ?_
      refine LJ.scr C dL_law_467 ?_
      refine LJ.ldI C dL_law_468 ?_
      refine LJ.iconst (v := nI 2) C dL_law_469 (by decide) ?_
      refine LJ.iadd C dL_law_470 ?_
      refine LJ.eqi (w_add _ _) ?_
      refine LJ.sld C (by omega) hL dL_law_471 ?_
      refine LJ.callM (rest := []) C (fun f g hI => m_halve hI hV) q291 q292 q293 q19 q294 (by show _ = _ ∧ _ ≠ _ ∧ _ ≠ _ ∧ _ = some 2; decide +kernel) ⟨by decide, by decide⟩ rfl (Nat.le_of_ble_eq_true rfl) dL_law_472 (fun v f' g' hR => ?_)
      obtain ⟨rfl, hMI⟩ := hR
      refine ⟨_, _, hMI, ?_⟩
      refine LJ.eqs (st' := []) rfl ?_
      refine LJ.goto (tgt := 596) C dL_law_475 (by decide) ?_
      exact hback _ _ (hV.up (hf_lt (hV _ (rg_lt _))) _)
    · refine LJ.tin (off := 445) (tgt := 478) C dL_law_33 (by decide) (by decide) rfl (by decide) ?_
      refine LJ.ldX C dL_law_478 ?_
      refine LJ.scr C dL_law_479 ?_
      refine LJ.ldI C dL_law_480 ?_
      refine LJ.iconst (v := nI 1) C dL_law_481 (by decide) ?_
      refine LJ.iadd C dL_law_482 ?_
      refine LJ.eqi (w_add _ _) ?_
      refine LJ.sld C (by omega) hL dL_law_483 ?_
      refine LJ.scr C dL_law_484 ?_
      refine LJ.ldI C dL_law_485 ?_
      refine LJ.iconst (v := nI 2) C dL_law_486 (by decide) ?_
      refine LJ.iadd C dL_law_487 ?_
      refine LJ.eqi (w_add _ _) ?_
      refine LJ.sld C (by omega) hL dL_law_488 ?_
      refine LJ.callX (rest := []) C (fun f g hI => x_negate hI hV) q148 q149 q150 q18 q151 (by show _ = _ ∧ _ ≠ _ ∧ _ ≠ _ ∧ _ = some 2; decide +kernel) ⟨by decide, by decide⟩ rfl (Nat.le_of_ble_eq_true rfl) dL_law_489 (fun v f' g' hR => ?_)
      obtain ⟨rfl, hXI⟩ := hR
      refine ⟨_, _, hXI, ?_⟩
      refine LJ.eqs (st' := []) rfl ?_
      refine LJ.ldM C dL_law_492 ?_
      refine LJ.scr C dL_law_493 ?_
      refine LJ.ldI C dL_law_494 ?_
      refine LJ.iconst (v := nI 1) C dL_law_495 (by decide) ?_
      refine LJ.iadd C dL_law_496 ?_
      refine LJ.eqi (w_add _ _) ?_
      refine LJ.sld C (by omega) hL dL_law_497 ?_
      refine LJ.scr C dL_law_498 ?_
      refine LJ.ldI C dL_law_499 ?_
      refine LJ.iconst (v := nI 2) C dL_law_500 (by decide) ?_
      refine LJ.iadd C dL_law_501 ?_
      refine LJ.eqi (w_add _ _) ?_
      refine LJ.sld C (by omega) hL dL_law_502 ?_
      refine LJ.callM (rest := []) C (fun f g hI => m_negate hI hV) q295 q296 q297 q19 q298 (by show _ = _ ∧ _ ≠ _ ∧ _ ≠ _ ∧ _ = some 2; decide +kernel) ⟨by decide, by decide⟩ rfl (Nat.le_of_ble_eq_true rfl) dL_law_503 (fun v f' g' hR => ?_)
      obtain ⟨rfl, hMI⟩ := hR
      refine ⟨_, _, hMI, ?_⟩
      refine LJ.eqs (st' := []) rfl ?_
      refine LJ.goto (tgt := 596) C dL_law_506 (by decide) ?_
      exact hback _ _ (hV.up (Nat.mod_lt _ PP_pos) _)
    · refine LJ.tin (off := 476) (tgt := 509) C dL_law_33 (by decide) (by decide) rfl (by decide) ?_
      refine LJ.ldX C dL_law_509 ?_
      refine LJ.scr C dL_law_510 ?_
      refine LJ.ldI C dL_law_511 ?_
      refine LJ.iconst (v := nI 1) C dL_law_512 (by decide) ?_
      refine LJ.iadd C dL_law_513 ?_
      refine LJ.eqi (w_add _ _) ?_
      refine LJ.sld C (by omega) hL dL_law_514 ?_
      refine LJ.scr C dL_law_515 ?_
      refine LJ.ldI C dL_law_516 ?_
      refine LJ.iconst (v := nI 2) C dL_law_517 (by decide) ?_
      refine LJ.iadd C dL_law_518 ?_
      refine LJ.eqi (w_add _ _) ?_
      refine LJ.sld C (by omega) hL dL_law_519 ?_
      refine LJ.callX (rest := []) C (fun f g hI => x_invert hI hV) q152 q153 q154 q18 q155 (by show _ = _ ∧ _ ≠ _ ∧ _ ≠ _ ∧ _ = some 2; decide +kernel) ⟨by decide, by decide⟩ rfl (Nat.le_of_ble_eq_true rfl) dL_law_520 (fun v f' g' hR => ?_)
      rcases hR with ⟨h0, rfl, hXI⟩ | ⟨h0, rfl, X, lX, eX, hXI⟩
      · refine ⟨_, _, hXI, ?_⟩
        refine LJ.eqs (st' := [.int _]) rfl ?_
        refine LJ.ldM C dL_law_523 ?_
        refine LJ.scr C dL_law_524 ?_
        refine LJ.ldI C dL_law_525 ?_
        refine LJ.iconst (v := nI 1) C dL_law_526 (by decide) ?_
        refine LJ.iadd C dL_law_527 ?_
        refine LJ.eqi (w_add _ _) ?_
        refine LJ.sld C (by omega) hL dL_law_528 ?_
        refine LJ.scr C dL_law_529 ?_
        refine LJ.ldI C dL_law_530 ?_
        refine LJ.iconst (v := nI 2) C dL_law_531 (by decide) ?_
        refine LJ.iadd C dL_law_532 ?_
        refine LJ.eqi (w_add _ _) ?_
        refine LJ.sld C (by omega) hL dL_law_533 ?_
        refine LJ.callM (rest := [.int _]) C (fun f g hI => m_invert hI hV) q299 q300 q301 q19 q302 (by show _ = _ ∧ _ ≠ _ ∧ _ ≠ _ ∧ _ = some 2; decide +kernel) ⟨by decide, by decide⟩ rfl (Nat.le_of_ble_eq_true rfl) dL_law_534 (fun v f' g' hR => ?_)
        rcases hR with ⟨h1, rfl, hMI⟩ | ⟨h1, rfl, Y, lY, eY, hMI⟩
        · refine ⟨_, _, hMI, ?_⟩
          refine LJ.eqs (st' := [.int _, .int _]) rfl ?_
          refine LJ.icmp_eq (tgt := 596) C dL_law_537 (by decide) rfl ?_
          exact hback _ _ hV
        · exact absurd h0 h1
      · refine ⟨_, _, hXI, ?_⟩
        refine LJ.eqs (st' := [.int _]) rfl ?_
        refine LJ.ldM C dL_law_523 ?_
        refine LJ.scr C dL_law_524 ?_
        refine LJ.ldI C dL_law_525 ?_
        refine LJ.iconst (v := nI 1) C dL_law_526 (by decide) ?_
        refine LJ.iadd C dL_law_527 ?_
        refine LJ.eqi (w_add _ _) ?_
        refine LJ.sld C (by omega) hL dL_law_528 ?_
        refine LJ.scr C dL_law_529 ?_
        refine LJ.ldI C dL_law_530 ?_
        refine LJ.iconst (v := nI 2) C dL_law_531 (by decide) ?_
        refine LJ.iadd C dL_law_532 ?_
        refine LJ.eqi (w_add _ _) ?_
        refine LJ.sld C (by omega) hL dL_law_533 ?_
        refine LJ.callM (rest := [.int _]) C (fun f g hI => m_invert hI hV) q299 q300 q301 q19 q302 (by show _ = _ ∧ _ ≠ _ ∧ _ ≠ _ ∧ _ = some 2; decide +kernel) ⟨by decide, by decide⟩ rfl (Nat.le_of_ble_eq_true rfl) dL_law_534 (fun v f' g' hR => ?_)
        rcases hR with ⟨h1, rfl, hMI⟩ | ⟨h1, rfl, Y, lY, eY, hMI⟩
        · exact absurd h1 h0
        · refine ⟨_, _, hMI, ?_⟩
          refine LJ.eqs (st' := [.int _, .int _]) rfl ?_
          refine LJ.icmp_eq (tgt := 596) C dL_law_537 (by decide) rfl ?_
          obtain rfl := inv_uniq h0 (hV _ (rg_lt _)) lX lY eX eY
          exact hback _ _ (hV.up lX _)
    · refine LJ.tin (off := 509) (tgt := 542) C dL_law_33 (by decide) (by decide) rfl (by decide) ?_
      refine LJ.ldX C dL_law_542 ?_
      refine LJ.scr C dL_law_543 ?_
      refine LJ.ldI C dL_law_544 ?_
      refine LJ.iconst (v := nI 1) C dL_law_545 (by decide) ?_
      refine LJ.iadd C dL_law_546 ?_
      refine LJ.eqi (w_add _ _) ?_
      refine LJ.sld C (by omega) hL dL_law_547 ?_
      refine LJ.callX (rest := []) C (fun f g hI => x_zero hI hV) q169 q170 q171 q18 q172 (by show _ = _ ∧ _ ≠ _ ∧ _ ≠ _ ∧ _ = some 1; decide +kernel) ⟨by decide, by decide⟩ rfl (Nat.le_of_ble_eq_true rfl) dL_law_548 (fun v f' g' hR => ?_)
      obtain ⟨rfl, hXI⟩ := hR
      refine ⟨_, _, hXI, ?_⟩
      refine LJ.eqs (st' := [.int _]) rfl ?_
      refine LJ.ldM C dL_law_551 ?_
      refine LJ.scr C dL_law_552 ?_
      refine LJ.ldI C dL_law_553 ?_
      refine LJ.iconst (v := nI 1) C dL_law_554 (by decide) ?_
      refine LJ.iadd C dL_law_555 ?_
      refine LJ.eqi (w_add _ _) ?_
      refine LJ.sld C (by omega) hL dL_law_556 ?_
      refine LJ.callM (rest := [.int _]) C (fun f g hI => m_zero hI hV) q319 q320 q321 q19 q322 (by show _ = _ ∧ _ ≠ _ ∧ _ ≠ _ ∧ _ = some 1; decide +kernel) ⟨by decide, by decide⟩ rfl (Nat.le_of_ble_eq_true rfl) dL_law_557 (fun v f' g' hR => ?_)
      obtain ⟨rfl, hMI⟩ := hR
      refine ⟨_, _, hMI, ?_⟩
      refine LJ.eqs (st' := [.int _, .int _]) rfl ?_
      refine LJ.icmp_eq (tgt := 596) C dL_law_560 (by decide) rfl ?_
      exact hback _ _ (hV)
    · refine LJ.tin (off := 532) (tgt := 565) C dL_law_33 (by decide) (by decide) rfl (by decide) ?_
      refine LJ.ldX C dL_law_565 ?_
      refine LJ.scr C dL_law_566 ?_
      refine LJ.ldI C dL_law_567 ?_
      refine LJ.iconst (v := nI 1) C dL_law_568 (by decide) ?_
      refine LJ.iadd C dL_law_569 ?_
      refine LJ.eqi (w_add _ _) ?_
      refine LJ.sld C (by omega) hL dL_law_570 ?_
      refine LJ.scr C dL_law_571 ?_
      refine LJ.ldI C dL_law_572 ?_
      refine LJ.iconst (v := nI 2) C dL_law_573 (by decide) ?_
      refine LJ.iadd C dL_law_574 ?_
      refine LJ.eqi (w_add _ _) ?_
      refine LJ.sld C (by omega) hL dL_law_575 ?_
      refine LJ.callX (rest := []) C (fun f g hI => x_carry hI hV) q173 q174 q175 q18 q176 (by show _ = _ ∧ _ ≠ _ ∧ _ ≠ _ ∧ _ = some 2; decide +kernel) ⟨by decide, by decide⟩ rfl (Nat.le_of_ble_eq_true rfl) dL_law_576 (fun v f' g' hR => ?_)
      obtain ⟨rfl, hXI⟩ := hR
      refine ⟨_, _, hXI, ?_⟩
      refine LJ.eqs (st' := []) rfl ?_
      refine LJ.ldM C dL_law_579 ?_
      refine LJ.scr C dL_law_580 ?_
      refine LJ.ldI C dL_law_581 ?_
      refine LJ.iconst (v := nI 1) C dL_law_582 (by decide) ?_
      refine LJ.iadd C dL_law_583 ?_
      refine LJ.eqi (w_add _ _) ?_
      refine LJ.sld C (by omega) hL dL_law_584 ?_
      refine LJ.scr C dL_law_585 ?_
      refine LJ.ldI C dL_law_586 ?_
      refine LJ.iconst (v := nI 2) C dL_law_587 (by decide) ?_
      refine LJ.iadd C dL_law_588 ?_
      refine LJ.eqi (w_add _ _) ?_
      refine LJ.sld C (by omega) hL dL_law_589 ?_
      refine LJ.callM (rest := []) C (fun f g hI => m_carry hI hV) q323 q324 q325 q19 q326 (by show _ = _ ∧ _ ≠ _ ∧ _ ≠ _ ∧ _ = some 2; decide +kernel) ⟨by decide, by decide⟩ rfl (Nat.le_of_ble_eq_true rfl) dL_law_590 (fun v f' g' hR => ?_)
      obtain ⟨rfl, hMI⟩ := hR
      refine ⟨_, _, hMI, ?_⟩
      refine LJ.eqs (st' := []) rfl ?_
      refine LJ.goto (tgt := 596) C dL_law_593 (by decide) ?_
      exact hback _ _ (hV.up (Nat.mod_lt _ PP_pos) _)
    · refine LJ.tout (tgt := 596) C dL_law_33 (Or.inr (by decide)) (by decide) ?_
      exact hback V Ln hV
    · refine LJ.tout (tgt := 596) C dL_law_33 (Or.inr (by decide)) (by decide) ?_
      exact hback V Ln hV
end Law
end
section
/-! the law's entry: both objects are made, then the loop -/
section Sta
theorem df12 {P : Nat → Prop} (h0 : P 0) (h1 : P 1) (h2 : P 2) (h3 : P 3) (h4 : P 4) (h5 : P 5) (h6 : P 6) (h7 : P 7) (h8 : P 8) (h9 : P 9) (h10 : P 10) (h11 : P 11) : ∀ j, j < 12 → P j := by
  intro j hj
  rcases (show j = 0 ∨ j = 1 ∨ j = 2 ∨ j = 3 ∨ j = 4 ∨ j = 5 ∨ j = 6 ∨ j = 7 ∨ j = 8 ∨ j = 9 ∨ j = 10 ∨ j = 11 by omega) with rfl | rfl | rfl | rfl | rfl | rfl | rfl | rfl | rfl | rfl | rfl | rfl <;> assumption
theorem gw_ex {ci : Nat} {d dL : ClassId} {a : Nat → Nat} {f : gF} {g : gG} {k : Nat} (hk : k < 13) : ∃ e, (gw ci d dL a f g)[k]? = some (a k, e) := by
  rcases Nat.eq_zero_or_pos k with h | h
  · subst h
    exact ⟨_, gw_at0⟩
  · exact ⟨_, gw_atE (by omega)⟩
theorem gw_apart {A : Nat → Prop} {d dL : ClassId} {a a2 : Nat → Nat} {f f2 : gF} {g g2 : gG} (h : va_D A (gw 0 d dL a f g ++ gw 1 d dL a2 f2 g2)) (i j : Nat) (hi : i < 13) (hj : j < 13) : a i ≠ a2 j := by
  intro e
  obtain ⟨e1, h1⟩ := gw_ex (ci := 0) (d := d) (dL := dL) (a := a) (f := f) (g := g) hi
  obtain ⟨e2, h2⟩ := gw_ex (ci := 1) (d := d) (dL := dL) (a := a2) (f := f2) (g := g2) hj
  have l1 : (gw 0 d dL a f g).length = 13 := rfl
  have q1 : (gw 0 d dL a f g ++ gw 1 d dL a2 f2 g2)[i]? = some (a i, e1) := by rw [List.getElem?_append_left (by omega)]; exact h1
  have q2 : (gw 0 d dL a f g ++ gw 1 d dL a2 f2 g2)[13 + j]? = some (a2 j, e2) := by
    rw [List.getElem?_append_right (by omega), l1, show 13 + j - 13 = j by omega]
    exact h2
  have := h.1 i (13 + j) _ _ q1 q2 e
  omega
set_option maxHeartbeats 4000000 in
set_option maxRecDepth 100000 in
/-- YOUR PART: from the entry, for every script of at most 3072 ints, the law comes to its end with true -/
theorem whole_start {p : Program} {e : Env} {s : State} {m : MethodId} {below : List Frame} {meth : Method} {c : Code} (l : Launch) {b L : Nat} {xs : Nat → Int32} (hL : L ≤ 3072) (C0 : lw_At p s m meth c b L xs) : W p l e room_1 s m #[Value.ref b] below meth c s.heap [] 0 0 (lw_Z below #[Value.ref b] s) (entryFrame m ([Value.ref b] : List Value).toArray 4) := by
  obtain ⟨hx, hb, hr, hml, hown, hts0, hsc, hbl, hlk, -⟩ := C0
  have hb : c.code = cL_law := hb
  have hts : ∀ w ∈ lw_all, w.before #[Value.ref b] s = true := fun w h => hts0 w (lw_all_tbl h)
  obtain ⟨c0_, iS0, hKn0⟩ := u_known (C := RX0) (T := TX0) (N := 12) (n := 12) hts in_X0 (hts _ q21)
  obtain ⟨c1_, iS1, hKn1⟩ := u_known (C := RX1) (T := TX1) (N := 12) (n := 12) hts in_X1 (hts _ q178)
  obtain ⟨d, kA, comp, hd1, hd2, hd3⟩ := Cond.arrayClass_spec (hts _ q79)
  obtain ⟨dL, kB, comp2, hl1, hl2, hl3⟩ := Cond.arrayClass_spec (hts _ q80)
  obtain ⟨D, hDe⟩ : ∃ D : va_G, D = (fun k => if k = 0 then c0_ else c1_, fun k => if k = 0 then iS0 else iS1) := ⟨_, rfl⟩
  have hK : va_K D vwCl (gTys d dL) s := by
    refine ⟨fun k q hq => ?_, fun k q hk => ?_⟩
    · rw [hDe]
      match k, hq with
      | 0, hq => cases hq; exact hKn0
      | 1, hq => cases hq; exact hKn1
      | k + 2, hq => simp [vwCl] at hq
    · match k, hk with
      | 0, hk => cases hk; exact ⟨fun n z => ⟨fun k h => (by cases h), kA, hd2, comp, hd3⟩, hd1⟩
      | 1, hk => cases hk; exact ⟨fun n z => ⟨fun k h => (by cases h), kB, hl2, comp2, hl3⟩, hl1⟩
      | k + 2, hk => simp at hk
  have hA : ∀ q : Nat, s.heap.size ≤ q → lA s q := fun q h => h
  have hS : va_S (lA s) s.heap s.heap [] := va_S.rf
  have hP : va_P D vwCl [] s.heap := fun k q hq => by simp at hq
  have hD : va_D (lA s) [] := ⟨fun i j x y hx => by simp at hx, fun k q hq => by simp at hq⟩
  have hl := lv_entry ([.ref b]) (n := 4) (Nat.le_of_ble_eq_true rfl)
  rw [lg_entry_eq]
  generalize (lg_sl ([.ref b]) ++ List.replicate (4 - (lg_sl ([.ref b])).length) Slot.unset).toArray = ls at hl ⊢
  have hl : lv_has ls 4 [(0, .ref b)] := hl
  refine va_new (ci := 0) (fs := gNul) (C := RX0) (T := TX0) (N := 12) hx hb hts in_X0 tyX0 tyX0_ok hown (hts _ q20) (hts _ q21) (hts _ q18) hK hP hD hS hA rfl (df12 rfl rfl rfl rfl rfl rfl rfl rfl rfl rfl rfl rfl) (show 0 + 1 ≤ 600000 by decide) (show 0 + 12 ≤ 7290000 by decide) dL_law_0 (fun h0 H hP hD hS => ?_)
  have hP : va_P D vwCl [(h0, .inr (0, gNul))] H := hP
  have hD : va_D (lA s) [(h0, .inr (0, gNul))] := hD
  refine lv_dup hx hb dL_law_3 rfl ?_
  have hFc := va_free (wc := [(h0, .inr (0, gNul))]) hD hS hA [0] rfl
  refine va_callv (va_runI (As := []) (rest := [.ref h0]) ⟨hx, hb, hml, hown, hts⟩ (x_init l D d dL h0 H.size) (cwI 0 hts (lw_meth q24) rfl rfl rfl (hts _ q18) (hts _ q22) (hts _ q23) rfl (by decide +kernel) ⟨show 2 + 1 ≤ 6 by decide, show 8 + (2 + 11) + 49 ≤ 198 by decide⟩) ⟨fun a U g mk q => by obtain ⟨q0, q1, qP, qK, qD⟩ := q; exact ⟨q0, q1, qP, va_K.moved (u := U) (U := U.calling g mk a) (Vm.Alike.refl U.vm) qK, qD⟩, fun U hU hW => ⟨rfl, by rw [hU], by rw [hU]; exact hP, va_K.moved hW.alike hK, hD.weaken (fun _ _ _ _ => trivial)⟩⟩ rfl rfl hl.1 rfl (lv_room (Nat.le_of_ble_eq_true rfl)) dL_law_4 ⟨show 0 + 1 + 12 ≤ 600000 by decide, show 0 + 12 + 182 ≤ 7290000 by decide⟩) hS (fun q _ h => hFc q h) hFc (fun u t H1 locs ht hvm hw1 hB hz1 hk1 hS => ?_)
  obtain ⟨a, f, g⟩ := u
  obtain ⟨ha0, hXI⟩ := hw1
  dsimp only at ha0 hXI hB
  obtain ⟨hP1, -, hD1⟩ := hB
  rw [ht] at hP1
  subst ha0
  have hD1 := hD1.weaken (fun k q hq h => hFc _ h)
  clear hP hD
  refine W.widen (k := 13) (n := 194) (by decide) (by decide) ?_
  refine lv_astore_n (lv' := [(1, .ref (a 0)), (0, .ref b)]) hx hb dL_law_7 rfl hl (by decide) rfl (fun ls hl => ?_)
  refine va_new (ci := 1) (fs := gNul) (C := RX1) (T := TX1) (N := 12) hx hb hts in_X1 tyX1 tyX1_ok hown (hts _ q177) (hts _ q178) (hts _ q19) hK hP1 hD1 hS hA rfl (df12 rfl rfl rfl rfl rfl rfl rfl rfl rfl rfl rfl rfl) (show 13 + 1 ≤ 600000 by decide) (show 194 + 12 ≤ 7290000 by decide) dL_law_8 (fun h2 H hP hD hS => ?_)
  refine lv_dup hx hb dL_law_11 rfl ?_
  have hPc := hP.sub (ws' := [(h2, .inr (1, gNul))]) [13] rfl
  have hDc := hD.sub (ws' := [(h2, .inr (1, gNul))]) [13] (by decide) rfl
  have hFc := va_free (wc := [(h2, .inr (1, gNul))]) hD hS hA [13] rfl
  refine va_callv (va_runI (As := []) (rest := [.ref h2]) ⟨hx, hb, hml, hown, hts⟩ (m_init l D d dL h2 H.size) (cwI 0 hts (lw_meth q181) rfl rfl rfl (hts _ q19) (hts _ q179) (hts _ q180) rfl (by decide +kernel) ⟨show 1 + 1 ≤ 6 by decide, show 8 + (1 + 11) + 12 ≤ 198 by decide⟩) ⟨fun a U g mk q => by obtain ⟨q0, q1, qP, qK, qD⟩ := q; exact ⟨q0, q1, qP, va_K.moved (u := U) (U := U.calling g mk a) (Vm.Alike.refl U.vm) qK, qD⟩, fun U hU hW => ⟨rfl, by rw [hU], by rw [hU]; exact hPc, va_K.moved hW.alike hK, hDc.weaken (fun _ _ _ _ => trivial)⟩⟩ rfl rfl hl.1 rfl (lv_room (Nat.le_of_ble_eq_true rfl)) dL_law_12 ⟨show 13 + 1 + 12 ≤ 600000 by decide, show 194 + 12 + 365 ≤ 7290000 by decide⟩) hS (fun q _ h => hFc q h) hFc (fun u t H1 locs ht hvm hw1 hB hz1 hk1 hS => ?_)
  obtain ⟨a2, f2, g2⟩ := u
  obtain ⟨ha0, hMI⟩ := hw1
  dsimp only at ha0 hMI hB
  obtain ⟨hP2, -, hD2⟩ := hB
  rw [ht] at hP2
  obtain ⟨hP, hD⟩ := va_join (wr := gw 0 d dL a f g) (w1 := gw 1 d dL a2 f2 g2) hP hD [13] [0, 1, 2, 3, 4, 5, 6, 7, 8, 9, 10, 11, 12] rfl rfl (by decide) (by decide) hk1 hFc hP2 hD2
  have hap := gw_apart hD
  have hPx : va_P D vwCl (gw 0 d dL a f g) H1 := hP.sub [0, 1, 2, 3, 4, 5, 6, 7, 8, 9, 10, 11, 12] rfl
  have hDx : va_D (lA s) (gw 0 d dL a f g) := hD.sub [0, 1, 2, 3, 4, 5, 6, 7, 8, 9, 10, 11, 12] (by decide) rfl
  have hDm : va_D (lA s) (gw 1 d dL a2 f2 g2) := hD2.weaken (fun k q hq h => hFc _ h)
  subst ha0
  refine W.widen (k := 26) (n := 571) (by decide) (by decide) ?_
  refine lv_astore_n (lv' := [(2, .ref (a2 0)), (1, .ref (a 0)), (0, .ref b)]) hx hb dL_law_15 rfl hl (by decide) rfl (fun ls hl => ?_)
  refine lv_iconst (v := nI 0) hx hb dL_law_16 (by decide) ?_
  refine lv_istore_n (lv' := [(3, .int (nI 0)), (2, .ref (a2 0)), (1, .ref (a 0)), (0, .ref b)]) hx hb dL_law_17 rfl hl (by decide) rfl (fun ls hl => ?_)
  exact law_loop (z := ((p, l, e, s, m), (below, meth, c, b, L, xs), (D, d, dL, a, a2))) (l := l) (b := b) (L := L) (xs := xs) (D := D) (d := d) (dL := dL) (a := a) (a2 := a2) ⟨hx, hb, hown, hts, hml, hlk, hr, hsc, hbl, hap, rfl, rfl, rfl, rfl, rfl, rfl, rfl, rfl, rfl⟩ hL (L + 1) 0 (fun _ => 0) 0 (fun _ _ => PP_pos) (Nat.zero_le _) (by omega) f g f2 g2 H1 locs ls hXI hMI ⟨hK, hPx, hP2, hDx, hDm, hS⟩ (lv_sub hl [3, 2, 1, 0] rfl)
end Sta
end
section
set_option maxRecDepth 100000
set_option maxHeartbeats 4000000 in
theorem lw_walk (l : Launch) (b : Addr) (xs : List Int32) : MetFree l x (headSpec (Jvm.Cond.code x code maxLocals ret :: tables_1) room_1) (lw_P b xs) (fun _ _ _ _ _ => True) lw_Q := by
  refine MetFree.of_bodyS (code := code) (maxLocals := maxLocals) (ret := ret) (by decide) ?_ ?_
  · intro args s m h hn
    obtain ⟨meth, c, h1, h2, h3, h4, h5, h6, -, -⟩ := Cond.code_spec hn (atoms_spec (ws := Jvm.Cond.code x code maxLocals ret :: tables_1) h _ List.mem_cons_self)
    exact ⟨meth, c, h1, h2, h3, h4, h5, h6⟩
  · intro p e s m args below meth c s₁ B hml0 hP _
    obtain ⟨rfl, hx, hbd, hgv⟩ := hP
    obtain ⟨scr, harrAt, hlist, hof, hsmall⟩ := hx
    obtain ⟨hcb, hkn, -, -⟩ := State.arrayAt?_spec harrAt
    have hown : s.vm.findClass R_law = some m.cls := findClass_of_methodNamed B.named
    have hts0 : ∀ c ∈ (Jvm.Cond.code x code maxLocals ret :: tables_1), c.before #[Value.ref b] s = true := atoms_spec (ws := Jvm.Cond.code x code maxLocals ret :: tables_1) B.pre
    have hts : ∀ w ∈ lw_tbl, w.before #[Value.ref b] s = true := k2_hts_sels lw_privs (fun w hw => hts0 w (List.mem_cons_of_mem _ hw)) lw_privs_ok
    have hml : c.maxLocals = 4 := B.maxLocals_eq (hts0 _ List.mem_cons_self)
    have X₀ : Stand p l e room_1 s m #[Value.ref b] below meth c s₁ [] 0 0 := Stand.of_body B
    have hh0 : s₁.heap = s.heap := by rw [B.state]; rfl
    have hsz : scr.slots.size = xs.length := by rw [← Array.length_toList, hlist, List.length_map]
    have hval : ∀ j : Nat, j < xs.length → scr.slots[j]? = some (.int (xs.getD j 0)) := fun j hj => by
      rw [← Array.getElem?_toList, hlist]
      simp [hj]
    have hbl : b < s.heap.size := (Array.getElem?_eq_some_iff.mp hcb).1
    have hX : va_X b xs.length (fun j => xs.getD j 0) s s.heap := ⟨scr, hcb, hof, hkn, hsz, hval⟩
    have K : W p l e room_1 s m #[Value.ref b] below meth c s₁.heap [] 0 0 (lw_Z below #[Value.ref b] s) (entryFrame m ([Value.ref b] : List Value).toArray 4) := by
      rw [hh0]
      exact whole_start l hbd ⟨B.exec, B.bytes, B.returns, hml, hown, hts, hX, hbl, B.notSynchronized, hgv⟩
    obtain ⟨t, a1, o, b1, b2, b3⟩ := K s₁ rfl X₀
    exact ⟨t, o, a1, b1, b2, b3⟩
theorem lw_pre_spec {args : Array Value} {s : State} (h : (Jvm.Cond.and given_1 narrow_1).before args s = true) (hr : rest_1_c.before args s = true) : ∃ (b : Addr) (xs : List Int32), lw_P b xs args s := by
  have hs := flat_of_before _ h
  have hq := flat_of_before _ hr
  have hc : (Cond.count 1).before args s = true := hs _ (by decide +kernel)
  have harr : (Cond.arrayOf (.arg 0) .int).before args s = true := hs _ (by decide +kernel)
  have hle : (Cond.le (.length (.arg 0)) (.int 3072)).before args s = true := hs _ (by decide +kernel)
  have hlen : (Cond.isInt (.length (.arg 0))).before args s = true := hq _ (by decide +kernel)
  have hall : (Cond.all (.arg 0) (.isInt (.elem (.arg 0) (.index 0)))).before args s = true := hq _ (by decide +kernel)
  obtain ⟨b, xs, hb, hx⟩ := State.ints_of_pre rfl harr hlen hall
  have hsm : xs.length < 2 ^ 31 := hx.choose_spec.2.2.2
  have hev : (Term.length (.arg 0)).eval args s none [] s = some (.int xs.length.toInt32) := hx.length_eval hb
  have hv := Cond.le_ints hev (show (Term.int 3072).eval args s none [] s = some (.int 3072) from rfl)
  have hd : xs.length.toInt32 ≤ 3072 := by
    simpa [Cond.before, Cond.holds, hv] using hle
  have hN : xs.length ≤ 3072 := (Int32.ofNat_le_ofNat hsm (by decide)).mp (show Int32.ofNat xs.length ≤ Int32.ofNat 3072 from hd)
  exact ⟨b, xs, Cond.one_arg hc (show args[0]? = some (.ref b) from hb), hx, hN, h⟩
theorem lw_comes (l : Launch) : Comes l x (Jvm.Cond.code x code maxLocals ret :: tables_1) room_1 (fun tb e args s => Calls_1 tb e args s ∧ rest_1 tb e args s ∧ Pre_1 tb e args s)
    (fun _ _ args s o t => lw_Q args s o t) := by
  intro p e ha hc hk s m args below hf hfit hheap happ hpre
  obtain ⟨b, xs, hP⟩ := lw_pre_spec hpre.2.2 hpre.2.1
  obtain ⟨k, o, h1, h2, h3, hQ⟩ := lw_walk l b xs p e ha hc hk s m args below hf ((Spec.applies_iff_loose hf).mp happ).1 hP trivial
  exact ⟨k, o, h1, h2, h3, hQ⟩
theorem lw_frame {s t : State} {o : Outcome} {args : Array Value} (h : Framed s o t [] 600000 7290000) :
    Framed s o t (fieldLocs frame_1_writes args s ++ arrayLocs frame_1_arrays args s ++ staticLocs frame_1_statics s) 600000 7290000 := h
theorem lw_limb (L : Cond) (hL : ∀ (args : Array Value) (s t : State), L.after args s (.returned (some (.int 1))) t = true) :
    ArmFor flags0 classFile x code maxLocals ret World_1 tables_1 room_1 Calls_1 rest_1 Pre_1
      (fun tb e a s o t => postC L tb e a s o t ∧ Framed s o t (fieldLocs frame_1_writes a s ++ arrayLocs frame_1_arrays a s ++ staticLocs frame_1_statics s) 600000 7290000) := by
  intro l _ _ _ p e ha hc hk s m args below hf hfit hheap happ hpre
  obtain ⟨k, o, h1, h2, h3, rfl, hF⟩ := lw_comes l p e ha hc hk s m args below hf hfit hheap happ hpre
  exact ⟨k, _, h1, h2, h3, hL args s _, lw_frame hF⟩
theorem i_vc : Claimed_1_1 ∧ Claimed_1_2 := ⟨lw_limb limb_1_1 (fun args s t => by simp [limb_1_1, Cond.after, Cond.holds, Cond.value]), lw_limb limb_1_2 (fun args s t => Cond.after_iff.mpr (by
  first | (rw [show limb_1_2 = Cond.eq .result (.int 1) from rfl, Cond.eq_ints (x := 1) (y := 1) rfl rfl]; simp; done) | (simp [limb_1_2, Cond.value, Term.eval]; done)))⟩
end
