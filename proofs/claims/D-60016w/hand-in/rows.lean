section
-- ===== PART A: goes FIRST, ahead of the names: the tables' words, and 'selects' of the private methods out of them =====
/-- a private method of a class that the tables say can be made, by its rows of tables_1 -/
def lw_okq (q : MethodName × Nat) : Prop := (q.1.cls ≠ "java/lang/invoke/MethodHandle" ∧ q.1.cls ≠ "java/lang/invoke/VarHandle") ∧ Cond.instantiable q.1.cls q.2 ∈ tables_1 ∧ Cond.privateMethod q.1 ∈ tables_1 ∧ Cond.instanceMethod q.1 ∈ tables_1
set_option maxRecDepth 100000
theorem lw_t1 {w : Cond} (h : w ∈ tables_1_1) : w ∈ tables_1 := List.mem_append_left _ h
theorem lw_t2 {w : Cond} (h : w ∈ tables_1_2) : w ∈ tables_1 := List.mem_append_right _ h
theorem lw_p0 : lw_okq (⟨"StreetWalker", "has", "(I)Z"⟩, 7) := ⟨⟨by decide +kernel, by decide +kernel⟩, lw_t1 (List.mem_of_getElem? (i := 4) rfl), lw_t1 (List.mem_of_getElem? (i := 43) rfl), lw_t1 (List.mem_of_getElem? (i := 44) rfl)⟩
theorem lw_p1 : lw_okq (⟨"StreetWalker", "endsOf", "(I)I"⟩, 7) := ⟨⟨by decide +kernel, by decide +kernel⟩, lw_t1 (List.mem_of_getElem? (i := 4) rfl), lw_t1 (List.mem_of_getElem? (i := 63) rfl), lw_t1 (List.mem_of_getElem? (i := 64) rfl)⟩
theorem lw_p2 : lw_okq (⟨"StreetWalker", "touched", "(I)I"⟩, 7) := ⟨⟨by decide +kernel, by decide +kernel⟩, lw_t1 (List.mem_of_getElem? (i := 4) rfl), lw_t1 (List.mem_of_getElem? (i := 71) rfl), lw_t1 (List.mem_of_getElem? (i := 72) rfl)⟩
theorem lw_p3 : lw_okq (⟨"StreetWalker", "reached", "(II)I"⟩, 7) := ⟨⟨by decide +kernel, by decide +kernel⟩, lw_t1 (List.mem_of_getElem? (i := 4) rfl), lw_t1 (List.mem_of_getElem? (i := 75) rfl), lw_t1 (List.mem_of_getElem? (i := 76) rfl)⟩
theorem lw_p4 : lw_okq (⟨"StreetWalker", "join", "(II)I"⟩, 7) := ⟨⟨by decide +kernel, by decide +kernel⟩, lw_t1 (List.mem_of_getElem? (i := 4) rfl), lw_t1 (List.mem_of_getElem? (i := 84) rfl), lw_t1 (List.mem_of_getElem? (i := 85) rfl)⟩
theorem lw_p5 : lw_okq (⟨"StreetWalker", "measure", "(I)V"⟩, 7) := ⟨⟨by decide +kernel, by decide +kernel⟩, lw_t1 (List.mem_of_getElem? (i := 4) rfl), lw_t1 (List.mem_of_getElem? (i := 88) rfl), lw_t1 (List.mem_of_getElem? (i := 89) rfl)⟩
theorem lw_p6 : lw_okq (⟨"StreetWalker", "shorten", "(III)V"⟩, 7) := ⟨⟨by decide +kernel, by decide +kernel⟩, lw_t1 (List.mem_of_getElem? (i := 4) rfl), lw_t1 (List.mem_of_getElem? (i := 93) rfl), lw_t1 (List.mem_of_getElem? (i := 94) rfl)⟩
theorem lw_p7 : lw_okq (⟨"StreetWalker", "pairUp", "(I)I"⟩, 7) := ⟨⟨by decide +kernel, by decide +kernel⟩, lw_t1 (List.mem_of_getElem? (i := 4) rfl), lw_t1 (List.mem_of_getElem? (i := 98) rfl), lw_t1 (List.mem_of_getElem? (i := 99) rfl)⟩
theorem lw_p8 : lw_okq (⟨"StreetWalker", "nextStreet", "(I)I"⟩, 7) := ⟨⟨by decide +kernel, by decide +kernel⟩, lw_t1 (List.mem_of_getElem? (i := 4) rfl), lw_t1 (List.mem_of_getElem? (i := 130) rfl), lw_t1 (List.mem_of_getElem? (i := 131) rfl)⟩
theorem lw_p9 : lw_okq (⟨"StreetWalker", "stillLeft", "()I"⟩, 7) := ⟨⟨by decide +kernel, by decide +kernel⟩, lw_t1 (List.mem_of_getElem? (i := 4) rfl), lw_t1 (List.mem_of_getElem? (i := 134) rfl), lw_t1 (List.mem_of_getElem? (i := 135) rfl)⟩
theorem lw_p10 : lw_okq (⟨"StreetWalkerModel", "corner", "(I)Z"⟩, 6) := ⟨⟨by decide +kernel, by decide +kernel⟩, lw_t1 (List.mem_of_getElem? (i := 138) rfl), lw_t1 (List.mem_of_getElem? (i := 168) rfl), lw_t1 (List.mem_of_getElem? (i := 169) rfl)⟩
theorem lw_p11 : lw_okq (⟨"StreetWalkerModel", "street", "(I)Z"⟩, 6) := ⟨⟨by decide +kernel, by decide +kernel⟩, lw_t1 (List.mem_of_getElem? (i := 138) rfl), lw_t1 (List.mem_of_getElem? (i := 176) rfl), lw_t1 (List.mem_of_getElem? (i := 177) rfl)⟩
theorem lw_p12 : lw_okq (⟨"StreetWalkerModel", "oddOf", "(I)I"⟩, 6) := ⟨⟨by decide +kernel, by decide +kernel⟩, lw_t1 (List.mem_of_getElem? (i := 138) rfl), lw_t1 (List.mem_of_getElem? (i := 193) rfl), lw_t1 (List.mem_of_getElem? (i := 194) rfl)⟩
theorem lw_p13 : lw_okq (⟨"StreetWalkerModel", "allFrom", "(II)Z"⟩, 6) := ⟨⟨by decide +kernel, by decide +kernel⟩, lw_t1 (List.mem_of_getElem? (i := 138) rfl), lw_t1 (List.mem_of_getElem? (i := 201) rfl), lw_t1 (List.mem_of_getElem? (i := 202) rfl)⟩
theorem lw_p14 : lw_okq (⟨"StreetWalkerModel", "reached", "(II)I"⟩, 6) := ⟨⟨by decide +kernel, by decide +kernel⟩, lw_t1 (List.mem_of_getElem? (i := 138) rfl), lw_t1 (List.mem_of_getElem? (i := 205) rfl), lw_t1 (List.mem_of_getElem? (i := 206) rfl)⟩
theorem lw_p15 : lw_okq (⟨"StreetWalkerModel", "first", "(II)I"⟩, 6) := ⟨⟨by decide +kernel, by decide +kernel⟩, lw_t1 (List.mem_of_getElem? (i := 138) rfl), lw_t1 (List.mem_of_getElem? (i := 213) rfl), lw_t1 (List.mem_of_getElem? (i := 214) rfl)⟩
def lw_privs_1 : List (MethodName × Nat) := [(⟨"StreetWalker", "has", "(I)Z"⟩, 7), (⟨"StreetWalker", "endsOf", "(I)I"⟩, 7), (⟨"StreetWalker", "touched", "(I)I"⟩, 7), (⟨"StreetWalker", "reached", "(II)I"⟩, 7), (⟨"StreetWalker", "join", "(II)I"⟩, 7), (⟨"StreetWalker", "measure", "(I)V"⟩, 7), (⟨"StreetWalker", "shorten", "(III)V"⟩, 7), (⟨"StreetWalker", "pairUp", "(I)I"⟩, 7), (⟨"StreetWalker", "nextStreet", "(I)I"⟩, 7), (⟨"StreetWalker", "stillLeft", "()I"⟩, 7), (⟨"StreetWalkerModel", "corner", "(I)Z"⟩, 6), (⟨"StreetWalkerModel", "street", "(I)Z"⟩, 6), (⟨"StreetWalkerModel", "oddOf", "(I)I"⟩, 6), (⟨"StreetWalkerModel", "allFrom", "(II)Z"⟩, 6), (⟨"StreetWalkerModel", "reached", "(II)I"⟩, 6), (⟨"StreetWalkerModel", "first", "(II)I"⟩, 6)]
theorem lw_r1 : ∀ q ∈ lw_privs_1, lw_okq q := List.forall_mem_cons.mpr ⟨lw_p0, List.forall_mem_cons.mpr ⟨lw_p1, List.forall_mem_cons.mpr ⟨lw_p2, List.forall_mem_cons.mpr ⟨lw_p3, List.forall_mem_cons.mpr ⟨lw_p4, List.forall_mem_cons.mpr ⟨lw_p5, List.forall_mem_cons.mpr ⟨lw_p6, List.forall_mem_cons.mpr ⟨lw_p7, List.forall_mem_cons.mpr ⟨lw_p8, List.forall_mem_cons.mpr ⟨lw_p9, List.forall_mem_cons.mpr ⟨lw_p10, List.forall_mem_cons.mpr ⟨lw_p11, List.forall_mem_cons.mpr ⟨lw_p12, List.forall_mem_cons.mpr ⟨lw_p13, List.forall_mem_cons.mpr ⟨lw_p14, List.forall_mem_cons.mpr ⟨lw_p15, fun _ h => absurd h List.not_mem_nil⟩⟩⟩⟩⟩⟩⟩⟩⟩⟩⟩⟩⟩⟩⟩⟩
theorem lw_p16 : lw_okq (⟨"StreetWalkerModel", "setOf", "(I)I"⟩, 6) := ⟨⟨by decide +kernel, by decide +kernel⟩, lw_t1 (List.mem_of_getElem? (i := 138) rfl), lw_t1 (List.mem_of_getElem? (i := 218) rfl), lw_t1 (List.mem_of_getElem? (i := 219) rfl)⟩
theorem lw_p17 : lw_okq (⟨"StreetWalkerModel", "lengthOf", "(I)I"⟩, 6) := ⟨⟨by decide +kernel, by decide +kernel⟩, lw_t1 (List.mem_of_getElem? (i := 138) rfl), lw_t1 (List.mem_of_getElem? (i := 222) rfl), lw_t1 (List.mem_of_getElem? (i := 223) rfl)⟩
theorem lw_p18 : lw_okq (⟨"StreetWalkerModel", "nextStreet", "(I)I"⟩, 6) := ⟨⟨by decide +kernel, by decide +kernel⟩, lw_t1 (List.mem_of_getElem? (i := 138) rfl), lw_t2 (List.mem_of_getElem? (i := 14) rfl), lw_t2 (List.mem_of_getElem? (i := 15) rfl)⟩
theorem lw_p19 : lw_okq (⟨"StreetWalkerModel", "rest", "()I"⟩, 6) := ⟨⟨by decide +kernel, by decide +kernel⟩, lw_t1 (List.mem_of_getElem? (i := 138) rfl), lw_t2 (List.mem_of_getElem? (i := 18) rfl), lw_t2 (List.mem_of_getElem? (i := 19) rfl)⟩
def lw_privs_2 : List (MethodName × Nat) := [(⟨"StreetWalkerModel", "setOf", "(I)I"⟩, 6), (⟨"StreetWalkerModel", "lengthOf", "(I)I"⟩, 6), (⟨"StreetWalkerModel", "nextStreet", "(I)I"⟩, 6), (⟨"StreetWalkerModel", "rest", "()I"⟩, 6)]
theorem lw_r2 : ∀ q ∈ lw_privs_2, lw_okq q := List.forall_mem_cons.mpr ⟨lw_p16, List.forall_mem_cons.mpr ⟨lw_p17, List.forall_mem_cons.mpr ⟨lw_p18, List.forall_mem_cons.mpr ⟨lw_p19, fun _ h => absurd h List.not_mem_nil⟩⟩⟩⟩
def lw_privs : List (MethodName × Nat) := lw_privs_1 ++ (lw_privs_2)
def lw_tbl : List Cond := k2_sels lw_privs ++ tables_1
theorem lw_privs_ok : ∀ q ∈ lw_privs, lw_okq q := by
  show ∀ q ∈ lw_privs_1 ++ (lw_privs_2), lw_okq q
  exact List.forall_mem_append.mpr ⟨lw_r1, lw_r2⟩
-- ===== ONE list of words for every method: the tables' words that hold all through a run =====
def lw_all : List Cond := lw_tbl.filter goodWord
/-- a word of the tables by its place: claim/WORDS.tsv -/
theorem lw_w {w : Cond} (i : Nat) (h : lw_tbl[i]? = some w) (g : goodWord w = true) : w ∈ lw_all := List.mem_filter.mpr ⟨List.mem_of_getElem? h, g⟩
theorem lw_all_tbl {w : Cond} (h : w ∈ lw_all) : w ∈ lw_tbl := (List.mem_filter.mp h).1
theorem lw_self : GoodIn lw_all lw_all := fun w h => ⟨h, good_of_word (List.mem_filter.mp h).2⟩
/-- a class's field words, by their places -/
theorem lw_in (ws : List Cond) (ps : List Nat) (hp : ws = ps.filterMap (fun i => lw_tbl[i]?)) (hg : ws.all goodWord = true) : ∀ w ∈ ws, w ∈ lw_all := by
  intro w h
  have h1 := List.all_eq_true.mp hg w h
  rw [hp] at h
  obtain ⟨i, -, hi⟩ := List.mem_filterMap.mp h
  exact lw_w i hi h1
/-- the words of a contract for the method y with code b, L locals, answer r -/
abbrev ws_ (y : MethodName) (b : ByteArray) (L : Nat) (r : Option FieldType) : List Cond := Cond.code y b L r :: lw_all
theorem lw_meth {y : MethodName} {b : ByteArray} {L : Nat} {r : Option FieldType} (h : Cond.code y b L r ∈ lw_all) : GoodIn lw_all (ws_ y b L r) := by
  intro w hw
  rcases List.mem_cons.mp hw with e | e
  · rw [e]
    exact lw_self _ h
  · exact lw_self _ e
theorem lw_app {a c : List Cond} (ha : ∀ w ∈ a, w ∈ lw_all) (hc : GoodIn lw_all c) : GoodIn lw_all (a ++ c) := by
  intro w hw
  rcases List.mem_append.mp hw with e | e
  · exact lw_self w (ha w e)
  · exact hc w e
/-- what a call through an object asks: cwV n hts (lw_V ..) -/
theorem lw_V {own : String} {idx : Nat} {C : String} {y : MethodName} {b : ByteArray} {L : Nat} {r : Option FieldType} (h1 : Cond.methodLink own idx y ∈ lw_all) (h2 : Cond.instanceMethod y ∈ lw_all) (h3 : Cond.selects C y y ∈ lw_all) (h4 : Cond.initialized C ∈ lw_all) (h5 : Cond.code y b L r ∈ lw_all) : GoodIn lw_all (wsV own idx C y (ws_ y b L r)) := by
  refine lw_app ?_ (lw_meth h5)
  intro w hw
  simp only [List.mem_cons, List.not_mem_nil, or_false] at hw
  rcases hw with e | e | e | e
  · rw [e]; exact h1
  · rw [e]; exact h2
  · rw [e]; exact h3
  · rw [e]; exact h4
/-- what a static call asks: va_cwS n hts (lw_S ..) -/
theorem lw_S {own : String} {idx : Nat} {y : MethodName} {b : ByteArray} {L : Nat} {r : Option FieldType} (h1 : Cond.methodLink own idx y ∈ lw_all) (h2 : Cond.static y ∈ lw_all) (h3 : Cond.initialized y.cls ∈ lw_all) (h4 : Cond.code y b L r ∈ lw_all) : GoodIn lw_all (va_wsS own idx y (ws_ y b L r)) := by
  refine lw_app ?_ (lw_meth h4)
  intro w hw
  simp only [List.mem_cons, List.not_mem_nil, or_false] at hw
  rcases hw with e | e | e
  · rw [e]; exact h1
  · rw [e]; exact h2
  · rw [e]; exact h3
/-- the words of a contract for a method WITH HANDLERS (hh: its table) -/
abbrev wsW_ (y : MethodName) (b : ByteArray) (L : Nat) (r : Option FieldType) (hh : List (Nat × Nat × Nat × Nat)) : List Cond := Cond.codeWith y b L r hh :: lw_all
theorem lw_methW {y : MethodName} {b : ByteArray} {L : Nat} {r : Option FieldType} {hh : List (Nat × Nat × Nat × Nat)} (h : Cond.codeWith y b L r hh ∈ lw_all) : GoodIn lw_all (wsW_ y b L r hh) := by
  intro w hw
  rcases List.mem_cons.mp hw with e | e
  · rw [e]
    exact lw_self _ h
  · exact lw_self _ e
/-- any list of words by their places (lw_in), good -/
theorem lw_good {ws : List Cond} (h : ∀ w ∈ ws, w ∈ lw_all) : GoodIn lw_all ws := fun w hw => lw_self w (h w hw)
/-- what a call of a method with handlers asks: vx_cwVW n hts (lw_VW ..), vx_cwSW n hts (lw_SW ..) -/
theorem lw_VW {own : String} {idx : Nat} {C : String} {y : MethodName} {b : ByteArray} {L : Nat} {r : Option FieldType} {hh : List (Nat × Nat × Nat × Nat)} (h1 : Cond.methodLink own idx y ∈ lw_all) (h2 : Cond.instanceMethod y ∈ lw_all) (h3 : Cond.selects C y y ∈ lw_all) (h4 : Cond.initialized C ∈ lw_all) (h5 : Cond.codeWith y b L r hh ∈ lw_all) : GoodIn lw_all (wsV own idx C y (wsW_ y b L r hh)) := by
  refine lw_app ?_ (lw_methW h5)
  intro w hw
  simp only [List.mem_cons, List.not_mem_nil, or_false] at hw
  rcases hw with e | e | e | e
  · rw [e]; exact h1
  · rw [e]; exact h2
  · rw [e]; exact h3
  · rw [e]; exact h4
theorem lw_SW {own : String} {idx : Nat} {y : MethodName} {b : ByteArray} {L : Nat} {r : Option FieldType} {hh : List (Nat × Nat × Nat × Nat)} (h1 : Cond.methodLink own idx y ∈ lw_all) (h2 : Cond.static y ∈ lw_all) (h3 : Cond.initialized y.cls ∈ lw_all) (h4 : Cond.codeWith y b L r hh ∈ lw_all) : GoodIn lw_all (va_wsS own idx y (wsW_ y b L r hh)) := by
  refine lw_app ?_ (lw_methW h4)
  intro w hw
  simp only [List.mem_cons, List.not_mem_nil, or_false] at hw
  rcases hw with e | e | e
  · rw [e]; exact h1
  · rw [e]; exact h2
  · rw [e]; exact h3
/-- a word by its place in its run of the tables -/
theorem lw_at {r : List Cond} (hr : ∀ w ∈ r, w ∈ lw_tbl) {w : Cond} (i : Nat) (h : r[i]? = some w) : w ∈ lw_tbl := hr w (List.mem_of_getElem? h)
theorem lw_g {w : Cond} (h : w ∈ lw_tbl) (g : goodWord w = true) : w ∈ lw_all := List.mem_filter.mpr ⟨h, g⟩
theorem lw_ms : ∀ w ∈ k2_sels lw_privs, w ∈ lw_tbl := fun w h => show w ∈ k2_sels lw_privs ++ tables_1 from List.mem_append_left _ h
theorem lw_m1 : ∀ w ∈ tables_1_1, w ∈ lw_tbl := fun w h => show w ∈ k2_sels lw_privs ++ tables_1 from List.mem_append_right (k2_sels lw_privs) (show w ∈ tables_1 from List.mem_append_left _ h)
theorem lw_m2 : ∀ w ∈ tables_1_2, w ∈ lw_tbl := fun w h => show w ∈ k2_sels lw_privs ++ tables_1 from List.mem_append_right (k2_sels lw_privs) (show w ∈ tables_1 from List.mem_append_right _ h)
theorem qs0 : (Cond.selects "StreetWalker" ⟨"StreetWalker", "has", "(I)Z"⟩ ⟨"StreetWalker", "has", "(I)Z"⟩) ∈ lw_all := lw_g (lw_at lw_ms 0 rfl) rfl
theorem qs1 : (Cond.selects "StreetWalker" ⟨"StreetWalker", "endsOf", "(I)I"⟩ ⟨"StreetWalker", "endsOf", "(I)I"⟩) ∈ lw_all := lw_g (lw_at lw_ms 1 rfl) rfl
theorem qs2 : (Cond.selects "StreetWalker" ⟨"StreetWalker", "touched", "(I)I"⟩ ⟨"StreetWalker", "touched", "(I)I"⟩) ∈ lw_all := lw_g (lw_at lw_ms 2 rfl) rfl
theorem qs3 : (Cond.selects "StreetWalker" ⟨"StreetWalker", "reached", "(II)I"⟩ ⟨"StreetWalker", "reached", "(II)I"⟩) ∈ lw_all := lw_g (lw_at lw_ms 3 rfl) rfl
theorem qs4 : (Cond.selects "StreetWalker" ⟨"StreetWalker", "join", "(II)I"⟩ ⟨"StreetWalker", "join", "(II)I"⟩) ∈ lw_all := lw_g (lw_at lw_ms 4 rfl) rfl
theorem qs5 : (Cond.selects "StreetWalker" ⟨"StreetWalker", "measure", "(I)V"⟩ ⟨"StreetWalker", "measure", "(I)V"⟩) ∈ lw_all := lw_g (lw_at lw_ms 5 rfl) rfl
theorem qs6 : (Cond.selects "StreetWalker" ⟨"StreetWalker", "shorten", "(III)V"⟩ ⟨"StreetWalker", "shorten", "(III)V"⟩) ∈ lw_all := lw_g (lw_at lw_ms 6 rfl) rfl
theorem qs7 : (Cond.selects "StreetWalker" ⟨"StreetWalker", "pairUp", "(I)I"⟩ ⟨"StreetWalker", "pairUp", "(I)I"⟩) ∈ lw_all := lw_g (lw_at lw_ms 7 rfl) rfl
theorem qs8 : (Cond.selects "StreetWalker" ⟨"StreetWalker", "nextStreet", "(I)I"⟩ ⟨"StreetWalker", "nextStreet", "(I)I"⟩) ∈ lw_all := lw_g (lw_at lw_ms 8 rfl) rfl
theorem qs9 : (Cond.selects "StreetWalker" ⟨"StreetWalker", "stillLeft", "()I"⟩ ⟨"StreetWalker", "stillLeft", "()I"⟩) ∈ lw_all := lw_g (lw_at lw_ms 9 rfl) rfl
theorem qs10 : (Cond.selects "StreetWalkerModel" ⟨"StreetWalkerModel", "corner", "(I)Z"⟩ ⟨"StreetWalkerModel", "corner", "(I)Z"⟩) ∈ lw_all := lw_g (lw_at lw_ms 10 rfl) rfl
theorem qs11 : (Cond.selects "StreetWalkerModel" ⟨"StreetWalkerModel", "street", "(I)Z"⟩ ⟨"StreetWalkerModel", "street", "(I)Z"⟩) ∈ lw_all := lw_g (lw_at lw_ms 11 rfl) rfl
theorem qs12 : (Cond.selects "StreetWalkerModel" ⟨"StreetWalkerModel", "oddOf", "(I)I"⟩ ⟨"StreetWalkerModel", "oddOf", "(I)I"⟩) ∈ lw_all := lw_g (lw_at lw_ms 12 rfl) rfl
theorem qs13 : (Cond.selects "StreetWalkerModel" ⟨"StreetWalkerModel", "allFrom", "(II)Z"⟩ ⟨"StreetWalkerModel", "allFrom", "(II)Z"⟩) ∈ lw_all := lw_g (lw_at lw_ms 13 rfl) rfl
theorem qs14 : (Cond.selects "StreetWalkerModel" ⟨"StreetWalkerModel", "reached", "(II)I"⟩ ⟨"StreetWalkerModel", "reached", "(II)I"⟩) ∈ lw_all := lw_g (lw_at lw_ms 14 rfl) rfl
theorem qs15 : (Cond.selects "StreetWalkerModel" ⟨"StreetWalkerModel", "first", "(II)I"⟩ ⟨"StreetWalkerModel", "first", "(II)I"⟩) ∈ lw_all := lw_g (lw_at lw_ms 15 rfl) rfl
theorem qs16 : (Cond.selects "StreetWalkerModel" ⟨"StreetWalkerModel", "setOf", "(I)I"⟩ ⟨"StreetWalkerModel", "setOf", "(I)I"⟩) ∈ lw_all := lw_g (lw_at lw_ms 16 rfl) rfl
theorem qs17 : (Cond.selects "StreetWalkerModel" ⟨"StreetWalkerModel", "lengthOf", "(I)I"⟩ ⟨"StreetWalkerModel", "lengthOf", "(I)I"⟩) ∈ lw_all := lw_g (lw_at lw_ms 17 rfl) rfl
theorem qs18 : (Cond.selects "StreetWalkerModel" ⟨"StreetWalkerModel", "nextStreet", "(I)I"⟩ ⟨"StreetWalkerModel", "nextStreet", "(I)I"⟩) ∈ lw_all := lw_g (lw_at lw_ms 18 rfl) rfl
theorem qs19 : (Cond.selects "StreetWalkerModel" ⟨"StreetWalkerModel", "rest", "()I"⟩ ⟨"StreetWalkerModel", "rest", "()I"⟩) ∈ lw_all := lw_g (lw_at lw_ms 19 rfl) rfl
end
section
set_option maxRecDepth 100000
/-! java/lang/Object -/
def RJ0 : String := "java/lang/Object"
abbrev cJ0_init : ByteArray := object_method_1_code
def yJ0_init : MethodName := ⟨RJ0, "<init>", "()V"⟩
theorem q29 : (Jvm.Cond.instanceMethod ({ cls := "java/lang/Object", name := "<init>", desc := "()V" } : Jvm.MethodName)) ∈ lw_all := lw_g (lw_at lw_m1 9 rfl) rfl
theorem q30 : (Jvm.Cond.code ({ cls := "java/lang/Object", name := "<init>", desc := "()V" } : Jvm.MethodName) object_method_1_code (1 : Nat) (Option.none : Option Jvm.ClassFile.FieldType)) ∈ lw_all := lw_g (lw_at lw_m1 10 rfl) rfl
/-! StreetWalker -/
def RX0 : String := "StreetWalker"
def TX0 : u_T := fun k => match k with
  | 0 => ("StreetWalker", "present", "I", false)
  | 1 => ("StreetWalker", "endA", "[B", true)
  | 2 => ("StreetWalker", "endB", "[B", true)
  | 3 => ("StreetWalker", "lengths", "[B", true)
  | 4 => ("StreetWalker", "ways", "[I", true)
  | 5 => ("StreetWalker", "pairing", "[I", true)
  | _ => ("StreetWalker", "left", "[B", true)
def tyX0 : Nat → FieldType := fun k => match k with
  | 0 => .int
  | 1 => .array .byte
  | 2 => .array .byte
  | 3 => .array .byte
  | 4 => .array .int
  | 5 => .array .int
  | _ => .array .byte
abbrev wsX00 : List Cond := u_ws RX0 TX0 7
theorem nmX0 : ∀ a, a < 7 → ∀ b, b < 7 → a ≠ b → (TX0 a).2.1 ≠ (TX0 b).2.1 := by decide +kernel
theorem tyX0_ok : ∀ k, k < 7 → parseFieldDescriptor (TX0 k).2.2.1 = some (tyX0 k) := by decide +kernel
abbrev cX0_init : ByteArray := prog_1_method_1_code
def yX0_init : MethodName := ⟨RX0, "<init>", "()V"⟩
abbrev cX0_build : ByteArray := prog_1_method_4_code
def yX0_build : MethodName := ⟨RX0, "build", "(III)I"⟩
abbrev cX0_isCorner : ByteArray := prog_1_method_2_code
def yX0_isCorner : MethodName := ⟨RX0, "isCorner", "(I)Z"⟩
abbrev cX0_has : ByteArray := prog_1_method_3_code
def yX0_has : MethodName := ⟨RX0, "has", "(I)Z"⟩
abbrev cX0_close : ByteArray := prog_1_method_5_code
def yX0_close : MethodName := ⟨RX0, "close", "(I)Z"⟩
abbrev cX0_setLength : ByteArray := prog_1_method_6_code
def yX0_setLength : MethodName := ⟨RX0, "setLength", "(II)Z"⟩
abbrev cX0_streets : ByteArray := prog_1_method_7_code
def yX0_streets : MethodName := ⟨RX0, "streets", "()I"⟩
abbrev cX0_odd : ByteArray := prog_1_method_9_code
def yX0_odd : MethodName := ⟨RX0, "odd", "()I"⟩
abbrev cX0_endsOf : ByteArray := prog_1_method_8_code
def yX0_endsOf : MethodName := ⟨RX0, "endsOf", "(I)I"⟩
abbrev cX0_connected : ByteArray := prog_1_method_12_code
def yX0_connected : MethodName := ⟨RX0, "connected", "()Z"⟩
abbrev cX0_touched : ByteArray := prog_1_method_10_code
def yX0_touched : MethodName := ⟨RX0, "touched", "(I)I"⟩
abbrev cX0_reached : ByteArray := prog_1_method_11_code
def yX0_reached : MethodName := ⟨RX0, "reached", "(II)I"⟩
abbrev cX0_extra : ByteArray := prog_1_method_17_code
def yX0_extra : MethodName := ⟨RX0, "extra", "()I"⟩
abbrev cX0_join : ByteArray := prog_1_method_15_code
def yX0_join : MethodName := ⟨RX0, "join", "(II)I"⟩
abbrev cX0_measure : ByteArray := prog_1_method_13_code
def yX0_measure : MethodName := ⟨RX0, "measure", "(I)V"⟩
abbrev cX0_shorten : ByteArray := prog_1_method_14_code
def yX0_shorten : MethodName := ⟨RX0, "shorten", "(III)V"⟩
abbrev cX0_pairUp : ByteArray := prog_1_method_16_code
def yX0_pairUp : MethodName := ⟨RX0, "pairUp", "(I)I"⟩
abbrev cX0_bestSet : ByteArray := prog_1_method_18_code
def yX0_bestSet : MethodName := ⟨RX0, "bestSet", "()I"⟩
abbrev cX0_extraWith : ByteArray := prog_1_method_19_code
def yX0_extraWith : MethodName := ⟨RX0, "extraWith", "(I)I"⟩
abbrev cX0_extraWithout : ByteArray := prog_1_method_20_code
def yX0_extraWithout : MethodName := ⟨RX0, "extraWithout", "(I)I"⟩
abbrev cX0_way : ByteArray := prog_1_method_21_code
def yX0_way : MethodName := ⟨RX0, "way", "(II)I"⟩
abbrev cX0_walkLength : ByteArray := prog_1_method_22_code
def yX0_walkLength : MethodName := ⟨RX0, "walkLength", "()I"⟩
abbrev cX0_walkAt : ByteArray := prog_1_method_23_code
def yX0_walkAt : MethodName := ⟨RX0, "walkAt", "(II)I"⟩
abbrev cX0_nextStreet : ByteArray := prog_1_method_24_code
def yX0_nextStreet : MethodName := ⟨RX0, "nextStreet", "(I)I"⟩
abbrev cX0_stillLeft : ByteArray := prog_1_method_25_code
def yX0_stillLeft : MethodName := ⟨RX0, "stillLeft", "()I"⟩
theorem q21 : (Jvm.Cond.initialized "StreetWalker") ∈ lw_all := lw_g (lw_at lw_m1 1 rfl) rfl
theorem q24 : (Jvm.Cond.instantiable "StreetWalker" (7 : Nat)) ∈ lw_all := lw_g (lw_at lw_m1 4 rfl) rfl
theorem q26 : (Jvm.Cond.instanceMethod ({ cls := "StreetWalker", name := "<init>", desc := "()V" } : Jvm.MethodName)) ∈ lw_all := lw_g (lw_at lw_m1 6 rfl) rfl
theorem q27 : (Jvm.Cond.code ({ cls := "StreetWalker", name := "<init>", desc := "()V" } : Jvm.MethodName) prog_1_method_1_code (1 : Nat) (Option.none : Option Jvm.ClassFile.FieldType)) ∈ lw_all := lw_g (lw_at lw_m1 7 rfl) rfl
theorem q28 : (Jvm.Cond.methodLink "StreetWalker" (1 : Nat) ({ cls := "java/lang/Object", name := "<init>", desc := "()V" } : Jvm.MethodName)) ∈ lw_all := lw_g (lw_at lw_m1 8 rfl) rfl
theorem q31 : (Jvm.Cond.fieldLink "StreetWalker" (29 : Nat) "StreetWalker" "present" "I") ∈ lw_all := lw_g (lw_at lw_m1 11 rfl) rfl
theorem q32 : (Jvm.Cond.fieldLink "StreetWalker" (7 : Nat) "StreetWalker" "endA" "[B") ∈ lw_all := lw_g (lw_at lw_m1 12 rfl) rfl
theorem q33 : (Jvm.Cond.fieldLink "StreetWalker" (13 : Nat) "StreetWalker" "endB" "[B") ∈ lw_all := lw_g (lw_at lw_m1 13 rfl) rfl
theorem q34 : (Jvm.Cond.fieldLink "StreetWalker" (16 : Nat) "StreetWalker" "lengths" "[B") ∈ lw_all := lw_g (lw_at lw_m1 14 rfl) rfl
theorem q35 : (Jvm.Cond.fieldLink "StreetWalker" (19 : Nat) "StreetWalker" "ways" "[I") ∈ lw_all := lw_g (lw_at lw_m1 15 rfl) rfl
theorem q36 : (Jvm.Cond.fieldLink "StreetWalker" (23 : Nat) "StreetWalker" "pairing" "[I") ∈ lw_all := lw_g (lw_at lw_m1 16 rfl) rfl
theorem q37 : (Jvm.Cond.fieldLink "StreetWalker" (26 : Nat) "StreetWalker" "left" "[B") ∈ lw_all := lw_g (lw_at lw_m1 17 rfl) rfl
theorem q38 : (Jvm.Cond.lays "StreetWalker" "StreetWalker" "present" "I") ∈ lw_all := lw_g (lw_at lw_m1 18 rfl) rfl
theorem q39 : (Jvm.Cond.soleField "StreetWalker" "present") ∈ lw_all := lw_g (lw_at lw_m1 19 rfl) rfl
theorem q40 : (Jvm.Cond.laysFinal "StreetWalker" "StreetWalker" "endA" "[B") ∈ lw_all := lw_g (lw_at lw_m1 20 rfl) rfl
theorem q41 : (Jvm.Cond.soleField "StreetWalker" "endA") ∈ lw_all := lw_g (lw_at lw_m1 21 rfl) rfl
theorem q42 : (Jvm.Cond.laysFinal "StreetWalker" "StreetWalker" "endB" "[B") ∈ lw_all := lw_g (lw_at lw_m1 22 rfl) rfl
theorem q43 : (Jvm.Cond.soleField "StreetWalker" "endB") ∈ lw_all := lw_g (lw_at lw_m1 23 rfl) rfl
theorem q44 : (Jvm.Cond.laysFinal "StreetWalker" "StreetWalker" "lengths" "[B") ∈ lw_all := lw_g (lw_at lw_m1 24 rfl) rfl
theorem q45 : (Jvm.Cond.soleField "StreetWalker" "lengths") ∈ lw_all := lw_g (lw_at lw_m1 25 rfl) rfl
theorem q46 : (Jvm.Cond.laysFinal "StreetWalker" "StreetWalker" "ways" "[I") ∈ lw_all := lw_g (lw_at lw_m1 26 rfl) rfl
theorem q47 : (Jvm.Cond.soleField "StreetWalker" "ways") ∈ lw_all := lw_g (lw_at lw_m1 27 rfl) rfl
theorem q48 : (Jvm.Cond.laysFinal "StreetWalker" "StreetWalker" "pairing" "[I") ∈ lw_all := lw_g (lw_at lw_m1 28 rfl) rfl
theorem q49 : (Jvm.Cond.soleField "StreetWalker" "pairing") ∈ lw_all := lw_g (lw_at lw_m1 29 rfl) rfl
theorem q50 : (Jvm.Cond.laysFinal "StreetWalker" "StreetWalker" "left" "[B") ∈ lw_all := lw_g (lw_at lw_m1 30 rfl) rfl
theorem q51 : (Jvm.Cond.soleField "StreetWalker" "left") ∈ lw_all := lw_g (lw_at lw_m1 31 rfl) rfl
theorem q52 : (Jvm.Cond.superclass "StreetWalker" "java/lang/Object") ∈ lw_all := lw_g (lw_at lw_m1 32 rfl) rfl
theorem q56 : (Jvm.Cond.instanceMethod ({ cls := "StreetWalker", name := "build", desc := "(III)I" } : Jvm.MethodName)) ∈ lw_all := lw_g (lw_at lw_m1 36 rfl) rfl
theorem q57 : (Jvm.Cond.selects "StreetWalker" ({ cls := "StreetWalker", name := "build", desc := "(III)I" } : Jvm.MethodName) ({ cls := "StreetWalker", name := "build", desc := "(III)I" } : Jvm.MethodName)) ∈ lw_all := lw_g (lw_at lw_m1 37 rfl) rfl
theorem q58 : (Jvm.Cond.code ({ cls := "StreetWalker", name := "build", desc := "(III)I" } : Jvm.MethodName) prog_1_method_4_code (5 : Nat) (Option.some Jvm.ClassFile.FieldType.int)) ∈ lw_all := lw_g (lw_at lw_m1 38 rfl) rfl
theorem q59 : (Jvm.Cond.methodLink "StreetWalker" (33 : Nat) ({ cls := "StreetWalker", name := "isCorner", desc := "(I)Z" } : Jvm.MethodName)) ∈ lw_all := lw_g (lw_at lw_m1 39 rfl) rfl
theorem q60 : (Jvm.Cond.static ({ cls := "StreetWalker", name := "isCorner", desc := "(I)Z" } : Jvm.MethodName)) ∈ lw_all := lw_g (lw_at lw_m1 40 rfl) rfl
theorem q61 : (Jvm.Cond.code ({ cls := "StreetWalker", name := "isCorner", desc := "(I)Z" } : Jvm.MethodName) prog_1_method_2_code (1 : Nat) (Option.some Jvm.ClassFile.FieldType.boolean)) ∈ lw_all := lw_g (lw_at lw_m1 41 rfl) rfl
theorem q62 : (Jvm.Cond.methodLink "StreetWalker" (37 : Nat) ({ cls := "StreetWalker", name := "has", desc := "(I)Z" } : Jvm.MethodName)) ∈ lw_all := lw_g (lw_at lw_m1 42 rfl) rfl
theorem q63 : (Jvm.Cond.privateMethod ({ cls := "StreetWalker", name := "has", desc := "(I)Z" } : Jvm.MethodName)) ∈ lw_tbl := lw_at lw_m1 43 rfl
theorem q64 : (Jvm.Cond.instanceMethod ({ cls := "StreetWalker", name := "has", desc := "(I)Z" } : Jvm.MethodName)) ∈ lw_all := lw_g (lw_at lw_m1 44 rfl) rfl
theorem q65 : (Jvm.Cond.code ({ cls := "StreetWalker", name := "has", desc := "(I)Z" } : Jvm.MethodName) prog_1_method_3_code (2 : Nat) (Option.some Jvm.ClassFile.FieldType.boolean)) ∈ lw_all := lw_g (lw_at lw_m1 45 rfl) rfl
theorem q67 : (Jvm.Cond.instanceMethod ({ cls := "StreetWalker", name := "close", desc := "(I)Z" } : Jvm.MethodName)) ∈ lw_all := lw_g (lw_at lw_m1 47 rfl) rfl
theorem q68 : (Jvm.Cond.selects "StreetWalker" ({ cls := "StreetWalker", name := "close", desc := "(I)Z" } : Jvm.MethodName) ({ cls := "StreetWalker", name := "close", desc := "(I)Z" } : Jvm.MethodName)) ∈ lw_all := lw_g (lw_at lw_m1 48 rfl) rfl
theorem q69 : (Jvm.Cond.code ({ cls := "StreetWalker", name := "close", desc := "(I)Z" } : Jvm.MethodName) prog_1_method_5_code (2 : Nat) (Option.some Jvm.ClassFile.FieldType.boolean)) ∈ lw_all := lw_g (lw_at lw_m1 49 rfl) rfl
theorem q71 : (Jvm.Cond.instanceMethod ({ cls := "StreetWalker", name := "setLength", desc := "(II)Z" } : Jvm.MethodName)) ∈ lw_all := lw_g (lw_at lw_m1 51 rfl) rfl
theorem q72 : (Jvm.Cond.selects "StreetWalker" ({ cls := "StreetWalker", name := "setLength", desc := "(II)Z" } : Jvm.MethodName) ({ cls := "StreetWalker", name := "setLength", desc := "(II)Z" } : Jvm.MethodName)) ∈ lw_all := lw_g (lw_at lw_m1 52 rfl) rfl
theorem q73 : (Jvm.Cond.code ({ cls := "StreetWalker", name := "setLength", desc := "(II)Z" } : Jvm.MethodName) prog_1_method_6_code (3 : Nat) (Option.some Jvm.ClassFile.FieldType.boolean)) ∈ lw_all := lw_g (lw_at lw_m1 53 rfl) rfl
theorem q75 : (Jvm.Cond.instanceMethod ({ cls := "StreetWalker", name := "streets", desc := "()I" } : Jvm.MethodName)) ∈ lw_all := lw_g (lw_at lw_m1 55 rfl) rfl
theorem q76 : (Jvm.Cond.selects "StreetWalker" ({ cls := "StreetWalker", name := "streets", desc := "()I" } : Jvm.MethodName) ({ cls := "StreetWalker", name := "streets", desc := "()I" } : Jvm.MethodName)) ∈ lw_all := lw_g (lw_at lw_m1 56 rfl) rfl
theorem q77 : (Jvm.Cond.code ({ cls := "StreetWalker", name := "streets", desc := "()I" } : Jvm.MethodName) prog_1_method_7_code (1 : Nat) (Option.some Jvm.ClassFile.FieldType.int)) ∈ lw_all := lw_g (lw_at lw_m1 57 rfl) rfl
theorem q79 : (Jvm.Cond.instanceMethod ({ cls := "StreetWalker", name := "odd", desc := "()I" } : Jvm.MethodName)) ∈ lw_all := lw_g (lw_at lw_m1 59 rfl) rfl
theorem q80 : (Jvm.Cond.selects "StreetWalker" ({ cls := "StreetWalker", name := "odd", desc := "()I" } : Jvm.MethodName) ({ cls := "StreetWalker", name := "odd", desc := "()I" } : Jvm.MethodName)) ∈ lw_all := lw_g (lw_at lw_m1 60 rfl) rfl
theorem q81 : (Jvm.Cond.code ({ cls := "StreetWalker", name := "odd", desc := "()I" } : Jvm.MethodName) prog_1_method_9_code (3 : Nat) (Option.some Jvm.ClassFile.FieldType.int)) ∈ lw_all := lw_g (lw_at lw_m1 61 rfl) rfl
theorem q82 : (Jvm.Cond.methodLink "StreetWalker" (40 : Nat) ({ cls := "StreetWalker", name := "endsOf", desc := "(I)I" } : Jvm.MethodName)) ∈ lw_all := lw_g (lw_at lw_m1 62 rfl) rfl
theorem q83 : (Jvm.Cond.privateMethod ({ cls := "StreetWalker", name := "endsOf", desc := "(I)I" } : Jvm.MethodName)) ∈ lw_tbl := lw_at lw_m1 63 rfl
theorem q84 : (Jvm.Cond.instanceMethod ({ cls := "StreetWalker", name := "endsOf", desc := "(I)I" } : Jvm.MethodName)) ∈ lw_all := lw_g (lw_at lw_m1 64 rfl) rfl
theorem q85 : (Jvm.Cond.code ({ cls := "StreetWalker", name := "endsOf", desc := "(I)I" } : Jvm.MethodName) prog_1_method_8_code (2 : Nat) (Option.some Jvm.ClassFile.FieldType.int)) ∈ lw_all := lw_g (lw_at lw_m1 65 rfl) rfl
theorem q87 : (Jvm.Cond.instanceMethod ({ cls := "StreetWalker", name := "connected", desc := "()Z" } : Jvm.MethodName)) ∈ lw_all := lw_g (lw_at lw_m1 67 rfl) rfl
theorem q88 : (Jvm.Cond.selects "StreetWalker" ({ cls := "StreetWalker", name := "connected", desc := "()Z" } : Jvm.MethodName) ({ cls := "StreetWalker", name := "connected", desc := "()Z" } : Jvm.MethodName)) ∈ lw_all := lw_g (lw_at lw_m1 68 rfl) rfl
theorem q89 : (Jvm.Cond.code ({ cls := "StreetWalker", name := "connected", desc := "()Z" } : Jvm.MethodName) prog_1_method_12_code (3 : Nat) (Option.some Jvm.ClassFile.FieldType.boolean)) ∈ lw_all := lw_g (lw_at lw_m1 69 rfl) rfl
theorem q90 : (Jvm.Cond.methodLink "StreetWalker" (44 : Nat) ({ cls := "StreetWalker", name := "touched", desc := "(I)I" } : Jvm.MethodName)) ∈ lw_all := lw_g (lw_at lw_m1 70 rfl) rfl
theorem q91 : (Jvm.Cond.privateMethod ({ cls := "StreetWalker", name := "touched", desc := "(I)I" } : Jvm.MethodName)) ∈ lw_tbl := lw_at lw_m1 71 rfl
theorem q92 : (Jvm.Cond.instanceMethod ({ cls := "StreetWalker", name := "touched", desc := "(I)I" } : Jvm.MethodName)) ∈ lw_all := lw_g (lw_at lw_m1 72 rfl) rfl
theorem q93 : (Jvm.Cond.code ({ cls := "StreetWalker", name := "touched", desc := "(I)I" } : Jvm.MethodName) prog_1_method_10_code (4 : Nat) (Option.some Jvm.ClassFile.FieldType.int)) ∈ lw_all := lw_g (lw_at lw_m1 73 rfl) rfl
theorem q94 : (Jvm.Cond.methodLink "StreetWalker" (47 : Nat) ({ cls := "StreetWalker", name := "reached", desc := "(II)I" } : Jvm.MethodName)) ∈ lw_all := lw_g (lw_at lw_m1 74 rfl) rfl
theorem q95 : (Jvm.Cond.privateMethod ({ cls := "StreetWalker", name := "reached", desc := "(II)I" } : Jvm.MethodName)) ∈ lw_tbl := lw_at lw_m1 75 rfl
theorem q96 : (Jvm.Cond.instanceMethod ({ cls := "StreetWalker", name := "reached", desc := "(II)I" } : Jvm.MethodName)) ∈ lw_all := lw_g (lw_at lw_m1 76 rfl) rfl
theorem q97 : (Jvm.Cond.code ({ cls := "StreetWalker", name := "reached", desc := "(II)I" } : Jvm.MethodName) prog_1_method_11_code (6 : Nat) (Option.some Jvm.ClassFile.FieldType.int)) ∈ lw_all := lw_g (lw_at lw_m1 77 rfl) rfl
theorem q99 : (Jvm.Cond.instanceMethod ({ cls := "StreetWalker", name := "extra", desc := "()I" } : Jvm.MethodName)) ∈ lw_all := lw_g (lw_at lw_m1 79 rfl) rfl
theorem q100 : (Jvm.Cond.selects "StreetWalker" ({ cls := "StreetWalker", name := "extra", desc := "()I" } : Jvm.MethodName) ({ cls := "StreetWalker", name := "extra", desc := "()I" } : Jvm.MethodName)) ∈ lw_all := lw_g (lw_at lw_m1 80 rfl) rfl
theorem q101 : (Jvm.Cond.code ({ cls := "StreetWalker", name := "extra", desc := "()I" } : Jvm.MethodName) prog_1_method_17_code (3 : Nat) (Option.some Jvm.ClassFile.FieldType.int)) ∈ lw_all := lw_g (lw_at lw_m1 81 rfl) rfl
theorem q102 : (Jvm.Cond.methodLink "StreetWalker" (64 : Nat) ({ cls := "StreetWalker", name := "odd", desc := "()I" } : Jvm.MethodName)) ∈ lw_all := lw_g (lw_at lw_m1 82 rfl) rfl
theorem q103 : (Jvm.Cond.methodLink "StreetWalker" (68 : Nat) ({ cls := "StreetWalker", name := "join", desc := "(II)I" } : Jvm.MethodName)) ∈ lw_all := lw_g (lw_at lw_m1 83 rfl) rfl
theorem q104 : (Jvm.Cond.privateMethod ({ cls := "StreetWalker", name := "join", desc := "(II)I" } : Jvm.MethodName)) ∈ lw_tbl := lw_at lw_m1 84 rfl
theorem q105 : (Jvm.Cond.instanceMethod ({ cls := "StreetWalker", name := "join", desc := "(II)I" } : Jvm.MethodName)) ∈ lw_all := lw_g (lw_at lw_m1 85 rfl) rfl
theorem q106 : (Jvm.Cond.code ({ cls := "StreetWalker", name := "join", desc := "(II)I" } : Jvm.MethodName) prog_1_method_15_code (4 : Nat) (Option.some Jvm.ClassFile.FieldType.int)) ∈ lw_all := lw_g (lw_at lw_m1 86 rfl) rfl
theorem q107 : (Jvm.Cond.methodLink "StreetWalker" (56 : Nat) ({ cls := "StreetWalker", name := "measure", desc := "(I)V" } : Jvm.MethodName)) ∈ lw_all := lw_g (lw_at lw_m1 87 rfl) rfl
theorem q108 : (Jvm.Cond.privateMethod ({ cls := "StreetWalker", name := "measure", desc := "(I)V" } : Jvm.MethodName)) ∈ lw_tbl := lw_at lw_m1 88 rfl
theorem q109 : (Jvm.Cond.instanceMethod ({ cls := "StreetWalker", name := "measure", desc := "(I)V" } : Jvm.MethodName)) ∈ lw_all := lw_g (lw_at lw_m1 89 rfl) rfl
theorem q110 : (Jvm.Cond.code ({ cls := "StreetWalker", name := "measure", desc := "(I)V" } : Jvm.MethodName) prog_1_method_13_code (5 : Nat) (Option.none : Option Jvm.ClassFile.FieldType)) ∈ lw_all := lw_g (lw_at lw_m1 90 rfl) rfl
theorem q111 : (Jvm.Cond.constant "StreetWalker" (51 : Nat) (100000 : Int32)) ∈ lw_all := lw_g (lw_at lw_m1 91 rfl) rfl
theorem q112 : (Jvm.Cond.methodLink "StreetWalker" (52 : Nat) ({ cls := "StreetWalker", name := "shorten", desc := "(III)V" } : Jvm.MethodName)) ∈ lw_all := lw_g (lw_at lw_m1 92 rfl) rfl
theorem q113 : (Jvm.Cond.privateMethod ({ cls := "StreetWalker", name := "shorten", desc := "(III)V" } : Jvm.MethodName)) ∈ lw_tbl := lw_at lw_m1 93 rfl
theorem q114 : (Jvm.Cond.instanceMethod ({ cls := "StreetWalker", name := "shorten", desc := "(III)V" } : Jvm.MethodName)) ∈ lw_all := lw_g (lw_at lw_m1 94 rfl) rfl
theorem q115 : (Jvm.Cond.code ({ cls := "StreetWalker", name := "shorten", desc := "(III)V" } : Jvm.MethodName) prog_1_method_14_code (5 : Nat) (Option.none : Option Jvm.ClassFile.FieldType)) ∈ lw_all := lw_g (lw_at lw_m1 95 rfl) rfl
theorem q116 : (Jvm.Cond.constant "StreetWalker" (60 : Nat) (200000 : Int32)) ∈ lw_all := lw_g (lw_at lw_m1 96 rfl) rfl
theorem q117 : (Jvm.Cond.methodLink "StreetWalker" (61 : Nat) ({ cls := "StreetWalker", name := "pairUp", desc := "(I)I" } : Jvm.MethodName)) ∈ lw_all := lw_g (lw_at lw_m1 97 rfl) rfl
theorem q118 : (Jvm.Cond.privateMethod ({ cls := "StreetWalker", name := "pairUp", desc := "(I)I" } : Jvm.MethodName)) ∈ lw_tbl := lw_at lw_m1 98 rfl
theorem q119 : (Jvm.Cond.instanceMethod ({ cls := "StreetWalker", name := "pairUp", desc := "(I)I" } : Jvm.MethodName)) ∈ lw_all := lw_g (lw_at lw_m1 99 rfl) rfl
theorem q120 : (Jvm.Cond.code ({ cls := "StreetWalker", name := "pairUp", desc := "(I)I" } : Jvm.MethodName) prog_1_method_16_code (7 : Nat) (Option.some Jvm.ClassFile.FieldType.int)) ∈ lw_all := lw_g (lw_at lw_m1 100 rfl) rfl
theorem q122 : (Jvm.Cond.instanceMethod ({ cls := "StreetWalker", name := "bestSet", desc := "()I" } : Jvm.MethodName)) ∈ lw_all := lw_g (lw_at lw_m1 102 rfl) rfl
theorem q123 : (Jvm.Cond.selects "StreetWalker" ({ cls := "StreetWalker", name := "bestSet", desc := "()I" } : Jvm.MethodName) ({ cls := "StreetWalker", name := "bestSet", desc := "()I" } : Jvm.MethodName)) ∈ lw_all := lw_g (lw_at lw_m1 103 rfl) rfl
theorem q124 : (Jvm.Cond.code ({ cls := "StreetWalker", name := "bestSet", desc := "()I" } : Jvm.MethodName) prog_1_method_18_code (7 : Nat) (Option.some Jvm.ClassFile.FieldType.int)) ∈ lw_all := lw_g (lw_at lw_m1 104 rfl) rfl
theorem q126 : (Jvm.Cond.instanceMethod ({ cls := "StreetWalker", name := "extraWith", desc := "(I)I" } : Jvm.MethodName)) ∈ lw_all := lw_g (lw_at lw_m1 106 rfl) rfl
theorem q127 : (Jvm.Cond.selects "StreetWalker" ({ cls := "StreetWalker", name := "extraWith", desc := "(I)I" } : Jvm.MethodName) ({ cls := "StreetWalker", name := "extraWith", desc := "(I)I" } : Jvm.MethodName)) ∈ lw_all := lw_g (lw_at lw_m1 107 rfl) rfl
theorem q128 : (Jvm.Cond.code ({ cls := "StreetWalker", name := "extraWith", desc := "(I)I" } : Jvm.MethodName) prog_1_method_19_code (4 : Nat) (Option.some Jvm.ClassFile.FieldType.int)) ∈ lw_all := lw_g (lw_at lw_m1 108 rfl) rfl
theorem q130 : (Jvm.Cond.instanceMethod ({ cls := "StreetWalker", name := "extraWithout", desc := "(I)I" } : Jvm.MethodName)) ∈ lw_all := lw_g (lw_at lw_m1 110 rfl) rfl
theorem q131 : (Jvm.Cond.selects "StreetWalker" ({ cls := "StreetWalker", name := "extraWithout", desc := "(I)I" } : Jvm.MethodName) ({ cls := "StreetWalker", name := "extraWithout", desc := "(I)I" } : Jvm.MethodName)) ∈ lw_all := lw_g (lw_at lw_m1 111 rfl) rfl
theorem q132 : (Jvm.Cond.code ({ cls := "StreetWalker", name := "extraWithout", desc := "(I)I" } : Jvm.MethodName) prog_1_method_20_code (4 : Nat) (Option.some Jvm.ClassFile.FieldType.int)) ∈ lw_all := lw_g (lw_at lw_m1 112 rfl) rfl
theorem q134 : (Jvm.Cond.instanceMethod ({ cls := "StreetWalker", name := "way", desc := "(II)I" } : Jvm.MethodName)) ∈ lw_all := lw_g (lw_at lw_m1 114 rfl) rfl
theorem q135 : (Jvm.Cond.selects "StreetWalker" ({ cls := "StreetWalker", name := "way", desc := "(II)I" } : Jvm.MethodName) ({ cls := "StreetWalker", name := "way", desc := "(II)I" } : Jvm.MethodName)) ∈ lw_all := lw_g (lw_at lw_m1 115 rfl) rfl
theorem q136 : (Jvm.Cond.code ({ cls := "StreetWalker", name := "way", desc := "(II)I" } : Jvm.MethodName) prog_1_method_21_code (4 : Nat) (Option.some Jvm.ClassFile.FieldType.int)) ∈ lw_all := lw_g (lw_at lw_m1 116 rfl) rfl
theorem q138 : (Jvm.Cond.instanceMethod ({ cls := "StreetWalker", name := "walkLength", desc := "()I" } : Jvm.MethodName)) ∈ lw_all := lw_g (lw_at lw_m1 118 rfl) rfl
theorem q139 : (Jvm.Cond.selects "StreetWalker" ({ cls := "StreetWalker", name := "walkLength", desc := "()I" } : Jvm.MethodName) ({ cls := "StreetWalker", name := "walkLength", desc := "()I" } : Jvm.MethodName)) ∈ lw_all := lw_g (lw_at lw_m1 119 rfl) rfl
theorem q140 : (Jvm.Cond.code ({ cls := "StreetWalker", name := "walkLength", desc := "()I" } : Jvm.MethodName) prog_1_method_22_code (3 : Nat) (Option.some Jvm.ClassFile.FieldType.int)) ∈ lw_all := lw_g (lw_at lw_m1 120 rfl) rfl
theorem q141 : (Jvm.Cond.methodLink "StreetWalker" (71 : Nat) ({ cls := "StreetWalker", name := "extra", desc := "()I" } : Jvm.MethodName)) ∈ lw_all := lw_g (lw_at lw_m1 121 rfl) rfl
theorem q142 : (Jvm.Cond.methodLink "StreetWalker" (74 : Nat) ({ cls := "StreetWalker", name := "connected", desc := "()Z" } : Jvm.MethodName)) ∈ lw_all := lw_g (lw_at lw_m1 122 rfl) rfl
theorem q144 : (Jvm.Cond.instanceMethod ({ cls := "StreetWalker", name := "walkAt", desc := "(II)I" } : Jvm.MethodName)) ∈ lw_all := lw_g (lw_at lw_m1 124 rfl) rfl
theorem q145 : (Jvm.Cond.selects "StreetWalker" ({ cls := "StreetWalker", name := "walkAt", desc := "(II)I" } : Jvm.MethodName) ({ cls := "StreetWalker", name := "walkAt", desc := "(II)I" } : Jvm.MethodName)) ∈ lw_all := lw_g (lw_at lw_m1 125 rfl) rfl
theorem q146 : (Jvm.Cond.code ({ cls := "StreetWalker", name := "walkAt", desc := "(II)I" } : Jvm.MethodName) prog_1_method_23_code (7 : Nat) (Option.some Jvm.ClassFile.FieldType.int)) ∈ lw_all := lw_g (lw_at lw_m1 126 rfl) rfl
theorem q147 : (Jvm.Cond.methodLink "StreetWalker" (78 : Nat) ({ cls := "StreetWalker", name := "walkLength", desc := "()I" } : Jvm.MethodName)) ∈ lw_all := lw_g (lw_at lw_m1 127 rfl) rfl
theorem q148 : (Jvm.Cond.methodLink "StreetWalker" (81 : Nat) ({ cls := "StreetWalker", name := "bestSet", desc := "()I" } : Jvm.MethodName)) ∈ lw_all := lw_g (lw_at lw_m1 128 rfl) rfl
theorem q149 : (Jvm.Cond.methodLink "StreetWalker" (84 : Nat) ({ cls := "StreetWalker", name := "nextStreet", desc := "(I)I" } : Jvm.MethodName)) ∈ lw_all := lw_g (lw_at lw_m1 129 rfl) rfl
theorem q150 : (Jvm.Cond.privateMethod ({ cls := "StreetWalker", name := "nextStreet", desc := "(I)I" } : Jvm.MethodName)) ∈ lw_tbl := lw_at lw_m1 130 rfl
theorem q151 : (Jvm.Cond.instanceMethod ({ cls := "StreetWalker", name := "nextStreet", desc := "(I)I" } : Jvm.MethodName)) ∈ lw_all := lw_g (lw_at lw_m1 131 rfl) rfl
theorem q152 : (Jvm.Cond.code ({ cls := "StreetWalker", name := "nextStreet", desc := "(I)I" } : Jvm.MethodName) prog_1_method_24_code (7 : Nat) (Option.some Jvm.ClassFile.FieldType.int)) ∈ lw_all := lw_g (lw_at lw_m1 132 rfl) rfl
theorem q153 : (Jvm.Cond.methodLink "StreetWalker" (87 : Nat) ({ cls := "StreetWalker", name := "stillLeft", desc := "()I" } : Jvm.MethodName)) ∈ lw_all := lw_g (lw_at lw_m1 133 rfl) rfl
theorem q154 : (Jvm.Cond.privateMethod ({ cls := "StreetWalker", name := "stillLeft", desc := "()I" } : Jvm.MethodName)) ∈ lw_tbl := lw_at lw_m1 134 rfl
theorem q155 : (Jvm.Cond.instanceMethod ({ cls := "StreetWalker", name := "stillLeft", desc := "()I" } : Jvm.MethodName)) ∈ lw_all := lw_g (lw_at lw_m1 135 rfl) rfl
theorem q156 : (Jvm.Cond.code ({ cls := "StreetWalker", name := "stillLeft", desc := "()I" } : Jvm.MethodName) prog_1_method_25_code (3 : Nat) (Option.some Jvm.ClassFile.FieldType.int)) ∈ lw_all := lw_g (lw_at lw_m1 136 rfl) rfl
theorem in_X0 : ∀ w ∈ wsX00, w ∈ lw_all := lw_in wsX00 [38, 40, 42, 44, 46, 48, 50] (by decide +kernel) (by decide +kernel)
/-! StreetWalkerModel -/
def RX1 : String := "StreetWalkerModel"
def TX1 : u_T := fun k => match k with
  | 0 => ("StreetWalkerModel", "there", "[Z", false)
  | 1 => ("StreetWalkerModel", "one", "[I", false)
  | 2 => ("StreetWalkerModel", "two", "[I", false)
  | 3 => ("StreetWalkerModel", "far", "[I", false)
  | 4 => ("StreetWalkerModel", "left", "[I", false)
  | _ => ("StreetWalkerModel", "near", "[I", false)
def tyX1 : Nat → FieldType := fun k => match k with
  | 0 => .array .boolean
  | 1 => .array .int
  | 2 => .array .int
  | 3 => .array .int
  | 4 => .array .int
  | _ => .array .int
abbrev wsX10 : List Cond := u_ws RX1 TX1 6
theorem nmX1 : ∀ a, a < 6 → ∀ b, b < 6 → a ≠ b → (TX1 a).2.1 ≠ (TX1 b).2.1 := by decide +kernel
theorem tyX1_ok : ∀ k, k < 6 → parseFieldDescriptor (TX1 k).2.2.1 = some (tyX1 k) := by decide +kernel
abbrev cX1_init : ByteArray := prog_3_method_1_code
def yX1_init : MethodName := ⟨RX1, "<init>", "()V"⟩
abbrev cX1_build : ByteArray := prog_3_method_4_code
def yX1_build : MethodName := ⟨RX1, "build", "(III)I"⟩
abbrev cX1_corner : ByteArray := prog_3_method_2_code
def yX1_corner : MethodName := ⟨RX1, "corner", "(I)Z"⟩
abbrev cX1_close : ByteArray := prog_3_method_5_code
def yX1_close : MethodName := ⟨RX1, "close", "(I)Z"⟩
abbrev cX1_street : ByteArray := prog_3_method_3_code
def yX1_street : MethodName := ⟨RX1, "street", "(I)Z"⟩
abbrev cX1_setLength : ByteArray := prog_3_method_6_code
def yX1_setLength : MethodName := ⟨RX1, "setLength", "(II)Z"⟩
abbrev cX1_streets : ByteArray := prog_3_method_7_code
def yX1_streets : MethodName := ⟨RX1, "streets", "()I"⟩
abbrev cX1_odd : ByteArray := prog_3_method_9_code
def yX1_odd : MethodName := ⟨RX1, "odd", "()I"⟩
abbrev cX1_oddOf : ByteArray := prog_3_method_8_code
def yX1_oddOf : MethodName := ⟨RX1, "oddOf", "(I)I"⟩
abbrev cX1_connected : ByteArray := prog_3_method_12_code
def yX1_connected : MethodName := ⟨RX1, "connected", "()Z"⟩
abbrev cX1_allFrom : ByteArray := prog_3_method_11_code
def yX1_allFrom : MethodName := ⟨RX1, "allFrom", "(II)Z"⟩
abbrev cX1_reached : ByteArray := prog_3_method_10_code
def yX1_reached : MethodName := ⟨RX1, "reached", "(II)I"⟩
abbrev cX1_extra : ByteArray := prog_3_method_16_code
def yX1_extra : MethodName := ⟨RX1, "extra", "()I"⟩
abbrev cX1_first : ByteArray := prog_3_method_15_code
def yX1_first : MethodName := ⟨RX1, "first", "(II)I"⟩
abbrev cX1_setOf : ByteArray := prog_3_method_14_code
def yX1_setOf : MethodName := ⟨RX1, "setOf", "(I)I"⟩
abbrev cX1_lengthOf : ByteArray := prog_3_method_13_code
def yX1_lengthOf : MethodName := ⟨RX1, "lengthOf", "(I)I"⟩
abbrev cX1_bestSet : ByteArray := prog_3_method_17_code
def yX1_bestSet : MethodName := ⟨RX1, "bestSet", "()I"⟩
abbrev cX1_extraWith : ByteArray := prog_3_method_18_code
def yX1_extraWith : MethodName := ⟨RX1, "extraWith", "(I)I"⟩
abbrev cX1_extraWithout : ByteArray := prog_3_method_19_code
def yX1_extraWithout : MethodName := ⟨RX1, "extraWithout", "(I)I"⟩
abbrev cX1_way : ByteArray := prog_3_method_20_code
def yX1_way : MethodName := ⟨RX1, "way", "(II)I"⟩
abbrev cX1_walkLength : ByteArray := prog_3_method_21_code
def yX1_walkLength : MethodName := ⟨RX1, "walkLength", "()I"⟩
abbrev cX1_walkAt : ByteArray := prog_3_method_24_code
def yX1_walkAt : MethodName := ⟨RX1, "walkAt", "(II)I"⟩
abbrev cX1_nextStreet : ByteArray := prog_3_method_23_code
def yX1_nextStreet : MethodName := ⟨RX1, "nextStreet", "(I)I"⟩
abbrev cX1_rest : ByteArray := prog_3_method_22_code
def yX1_rest : MethodName := ⟨RX1, "rest", "()I"⟩
theorem q22 : (Jvm.Cond.initialized "StreetWalkerModel") ∈ lw_all := lw_g (lw_at lw_m1 2 rfl) rfl
theorem q158 : (Jvm.Cond.instantiable "StreetWalkerModel" (6 : Nat)) ∈ lw_all := lw_g (lw_at lw_m1 138 rfl) rfl
theorem q160 : (Jvm.Cond.instanceMethod ({ cls := "StreetWalkerModel", name := "<init>", desc := "()V" } : Jvm.MethodName)) ∈ lw_all := lw_g (lw_at lw_m1 140 rfl) rfl
theorem q161 : (Jvm.Cond.code ({ cls := "StreetWalkerModel", name := "<init>", desc := "()V" } : Jvm.MethodName) prog_3_method_1_code (1 : Nat) (Option.none : Option Jvm.ClassFile.FieldType)) ∈ lw_all := lw_g (lw_at lw_m1 141 rfl) rfl
theorem q162 : (Jvm.Cond.methodLink "StreetWalkerModel" (1 : Nat) ({ cls := "java/lang/Object", name := "<init>", desc := "()V" } : Jvm.MethodName)) ∈ lw_all := lw_g (lw_at lw_m1 142 rfl) rfl
theorem q163 : (Jvm.Cond.fieldLink "StreetWalkerModel" (7 : Nat) "StreetWalkerModel" "there" "[Z") ∈ lw_all := lw_g (lw_at lw_m1 143 rfl) rfl
theorem q164 : (Jvm.Cond.fieldLink "StreetWalkerModel" (13 : Nat) "StreetWalkerModel" "one" "[I") ∈ lw_all := lw_g (lw_at lw_m1 144 rfl) rfl
theorem q165 : (Jvm.Cond.fieldLink "StreetWalkerModel" (17 : Nat) "StreetWalkerModel" "two" "[I") ∈ lw_all := lw_g (lw_at lw_m1 145 rfl) rfl
theorem q166 : (Jvm.Cond.fieldLink "StreetWalkerModel" (20 : Nat) "StreetWalkerModel" "far" "[I") ∈ lw_all := lw_g (lw_at lw_m1 146 rfl) rfl
theorem q167 : (Jvm.Cond.fieldLink "StreetWalkerModel" (23 : Nat) "StreetWalkerModel" "left" "[I") ∈ lw_all := lw_g (lw_at lw_m1 147 rfl) rfl
theorem q168 : (Jvm.Cond.fieldLink "StreetWalkerModel" (26 : Nat) "StreetWalkerModel" "near" "[I") ∈ lw_all := lw_g (lw_at lw_m1 148 rfl) rfl
theorem q169 : (Jvm.Cond.lays "StreetWalkerModel" "StreetWalkerModel" "there" "[Z") ∈ lw_all := lw_g (lw_at lw_m1 149 rfl) rfl
theorem q170 : (Jvm.Cond.soleField "StreetWalkerModel" "there") ∈ lw_all := lw_g (lw_at lw_m1 150 rfl) rfl
theorem q171 : (Jvm.Cond.lays "StreetWalkerModel" "StreetWalkerModel" "one" "[I") ∈ lw_all := lw_g (lw_at lw_m1 151 rfl) rfl
theorem q172 : (Jvm.Cond.soleField "StreetWalkerModel" "one") ∈ lw_all := lw_g (lw_at lw_m1 152 rfl) rfl
theorem q173 : (Jvm.Cond.lays "StreetWalkerModel" "StreetWalkerModel" "two" "[I") ∈ lw_all := lw_g (lw_at lw_m1 153 rfl) rfl
theorem q174 : (Jvm.Cond.soleField "StreetWalkerModel" "two") ∈ lw_all := lw_g (lw_at lw_m1 154 rfl) rfl
theorem q175 : (Jvm.Cond.lays "StreetWalkerModel" "StreetWalkerModel" "far" "[I") ∈ lw_all := lw_g (lw_at lw_m1 155 rfl) rfl
theorem q176 : (Jvm.Cond.soleField "StreetWalkerModel" "far") ∈ lw_all := lw_g (lw_at lw_m1 156 rfl) rfl
theorem q177 : (Jvm.Cond.lays "StreetWalkerModel" "StreetWalkerModel" "left" "[I") ∈ lw_all := lw_g (lw_at lw_m1 157 rfl) rfl
theorem q178 : (Jvm.Cond.soleField "StreetWalkerModel" "left") ∈ lw_all := lw_g (lw_at lw_m1 158 rfl) rfl
theorem q179 : (Jvm.Cond.lays "StreetWalkerModel" "StreetWalkerModel" "near" "[I") ∈ lw_all := lw_g (lw_at lw_m1 159 rfl) rfl
theorem q180 : (Jvm.Cond.soleField "StreetWalkerModel" "near") ∈ lw_all := lw_g (lw_at lw_m1 160 rfl) rfl
theorem q181 : (Jvm.Cond.superclass "StreetWalkerModel" "java/lang/Object") ∈ lw_all := lw_g (lw_at lw_m1 161 rfl) rfl
theorem q184 : (Jvm.Cond.instanceMethod ({ cls := "StreetWalkerModel", name := "build", desc := "(III)I" } : Jvm.MethodName)) ∈ lw_all := lw_g (lw_at lw_m1 164 rfl) rfl
theorem q185 : (Jvm.Cond.selects "StreetWalkerModel" ({ cls := "StreetWalkerModel", name := "build", desc := "(III)I" } : Jvm.MethodName) ({ cls := "StreetWalkerModel", name := "build", desc := "(III)I" } : Jvm.MethodName)) ∈ lw_all := lw_g (lw_at lw_m1 165 rfl) rfl
theorem q186 : (Jvm.Cond.code ({ cls := "StreetWalkerModel", name := "build", desc := "(III)I" } : Jvm.MethodName) prog_3_method_4_code (5 : Nat) (Option.some Jvm.ClassFile.FieldType.int)) ∈ lw_all := lw_g (lw_at lw_m1 166 rfl) rfl
theorem q187 : (Jvm.Cond.methodLink "StreetWalkerModel" (29 : Nat) ({ cls := "StreetWalkerModel", name := "corner", desc := "(I)Z" } : Jvm.MethodName)) ∈ lw_all := lw_g (lw_at lw_m1 167 rfl) rfl
theorem q188 : (Jvm.Cond.privateMethod ({ cls := "StreetWalkerModel", name := "corner", desc := "(I)Z" } : Jvm.MethodName)) ∈ lw_tbl := lw_at lw_m1 168 rfl
theorem q189 : (Jvm.Cond.instanceMethod ({ cls := "StreetWalkerModel", name := "corner", desc := "(I)Z" } : Jvm.MethodName)) ∈ lw_all := lw_g (lw_at lw_m1 169 rfl) rfl
theorem q190 : (Jvm.Cond.code ({ cls := "StreetWalkerModel", name := "corner", desc := "(I)Z" } : Jvm.MethodName) prog_3_method_2_code (2 : Nat) (Option.some Jvm.ClassFile.FieldType.boolean)) ∈ lw_all := lw_g (lw_at lw_m1 170 rfl) rfl
theorem q192 : (Jvm.Cond.instanceMethod ({ cls := "StreetWalkerModel", name := "close", desc := "(I)Z" } : Jvm.MethodName)) ∈ lw_all := lw_g (lw_at lw_m1 172 rfl) rfl
theorem q193 : (Jvm.Cond.selects "StreetWalkerModel" ({ cls := "StreetWalkerModel", name := "close", desc := "(I)Z" } : Jvm.MethodName) ({ cls := "StreetWalkerModel", name := "close", desc := "(I)Z" } : Jvm.MethodName)) ∈ lw_all := lw_g (lw_at lw_m1 173 rfl) rfl
theorem q194 : (Jvm.Cond.code ({ cls := "StreetWalkerModel", name := "close", desc := "(I)Z" } : Jvm.MethodName) prog_3_method_5_code (2 : Nat) (Option.some Jvm.ClassFile.FieldType.boolean)) ∈ lw_all := lw_g (lw_at lw_m1 174 rfl) rfl
theorem q195 : (Jvm.Cond.methodLink "StreetWalkerModel" (33 : Nat) ({ cls := "StreetWalkerModel", name := "street", desc := "(I)Z" } : Jvm.MethodName)) ∈ lw_all := lw_g (lw_at lw_m1 175 rfl) rfl
theorem q196 : (Jvm.Cond.privateMethod ({ cls := "StreetWalkerModel", name := "street", desc := "(I)Z" } : Jvm.MethodName)) ∈ lw_tbl := lw_at lw_m1 176 rfl
theorem q197 : (Jvm.Cond.instanceMethod ({ cls := "StreetWalkerModel", name := "street", desc := "(I)Z" } : Jvm.MethodName)) ∈ lw_all := lw_g (lw_at lw_m1 177 rfl) rfl
theorem q198 : (Jvm.Cond.code ({ cls := "StreetWalkerModel", name := "street", desc := "(I)Z" } : Jvm.MethodName) prog_3_method_3_code (2 : Nat) (Option.some Jvm.ClassFile.FieldType.boolean)) ∈ lw_all := lw_g (lw_at lw_m1 178 rfl) rfl
theorem q200 : (Jvm.Cond.instanceMethod ({ cls := "StreetWalkerModel", name := "setLength", desc := "(II)Z" } : Jvm.MethodName)) ∈ lw_all := lw_g (lw_at lw_m1 180 rfl) rfl
theorem q201 : (Jvm.Cond.selects "StreetWalkerModel" ({ cls := "StreetWalkerModel", name := "setLength", desc := "(II)Z" } : Jvm.MethodName) ({ cls := "StreetWalkerModel", name := "setLength", desc := "(II)Z" } : Jvm.MethodName)) ∈ lw_all := lw_g (lw_at lw_m1 181 rfl) rfl
theorem q202 : (Jvm.Cond.code ({ cls := "StreetWalkerModel", name := "setLength", desc := "(II)Z" } : Jvm.MethodName) prog_3_method_6_code (3 : Nat) (Option.some Jvm.ClassFile.FieldType.boolean)) ∈ lw_all := lw_g (lw_at lw_m1 182 rfl) rfl
theorem q204 : (Jvm.Cond.instanceMethod ({ cls := "StreetWalkerModel", name := "streets", desc := "()I" } : Jvm.MethodName)) ∈ lw_all := lw_g (lw_at lw_m1 184 rfl) rfl
theorem q205 : (Jvm.Cond.selects "StreetWalkerModel" ({ cls := "StreetWalkerModel", name := "streets", desc := "()I" } : Jvm.MethodName) ({ cls := "StreetWalkerModel", name := "streets", desc := "()I" } : Jvm.MethodName)) ∈ lw_all := lw_g (lw_at lw_m1 185 rfl) rfl
theorem q206 : (Jvm.Cond.code ({ cls := "StreetWalkerModel", name := "streets", desc := "()I" } : Jvm.MethodName) prog_3_method_7_code (3 : Nat) (Option.some Jvm.ClassFile.FieldType.int)) ∈ lw_all := lw_g (lw_at lw_m1 186 rfl) rfl
theorem q208 : (Jvm.Cond.instanceMethod ({ cls := "StreetWalkerModel", name := "odd", desc := "()I" } : Jvm.MethodName)) ∈ lw_all := lw_g (lw_at lw_m1 188 rfl) rfl
theorem q209 : (Jvm.Cond.selects "StreetWalkerModel" ({ cls := "StreetWalkerModel", name := "odd", desc := "()I" } : Jvm.MethodName) ({ cls := "StreetWalkerModel", name := "odd", desc := "()I" } : Jvm.MethodName)) ∈ lw_all := lw_g (lw_at lw_m1 189 rfl) rfl
theorem q210 : (Jvm.Cond.code ({ cls := "StreetWalkerModel", name := "odd", desc := "()I" } : Jvm.MethodName) prog_3_method_9_code (2 : Nat) (Option.some Jvm.ClassFile.FieldType.int)) ∈ lw_all := lw_g (lw_at lw_m1 190 rfl) rfl
theorem q211 : (Jvm.Cond.methodLink "StreetWalkerModel" (36 : Nat) ({ cls := "StreetWalkerModel", name := "streets", desc := "()I" } : Jvm.MethodName)) ∈ lw_all := lw_g (lw_at lw_m1 191 rfl) rfl
theorem q212 : (Jvm.Cond.methodLink "StreetWalkerModel" (40 : Nat) ({ cls := "StreetWalkerModel", name := "oddOf", desc := "(I)I" } : Jvm.MethodName)) ∈ lw_all := lw_g (lw_at lw_m1 192 rfl) rfl
theorem q213 : (Jvm.Cond.privateMethod ({ cls := "StreetWalkerModel", name := "oddOf", desc := "(I)I" } : Jvm.MethodName)) ∈ lw_tbl := lw_at lw_m1 193 rfl
theorem q214 : (Jvm.Cond.instanceMethod ({ cls := "StreetWalkerModel", name := "oddOf", desc := "(I)I" } : Jvm.MethodName)) ∈ lw_all := lw_g (lw_at lw_m1 194 rfl) rfl
theorem q215 : (Jvm.Cond.code ({ cls := "StreetWalkerModel", name := "oddOf", desc := "(I)I" } : Jvm.MethodName) prog_3_method_8_code (4 : Nat) (Option.some Jvm.ClassFile.FieldType.int)) ∈ lw_all := lw_g (lw_at lw_m1 195 rfl) rfl
theorem q217 : (Jvm.Cond.instanceMethod ({ cls := "StreetWalkerModel", name := "connected", desc := "()Z" } : Jvm.MethodName)) ∈ lw_all := lw_g (lw_at lw_m1 197 rfl) rfl
theorem q218 : (Jvm.Cond.selects "StreetWalkerModel" ({ cls := "StreetWalkerModel", name := "connected", desc := "()Z" } : Jvm.MethodName) ({ cls := "StreetWalkerModel", name := "connected", desc := "()Z" } : Jvm.MethodName)) ∈ lw_all := lw_g (lw_at lw_m1 198 rfl) rfl
theorem q219 : (Jvm.Cond.code ({ cls := "StreetWalkerModel", name := "connected", desc := "()Z" } : Jvm.MethodName) prog_3_method_12_code (3 : Nat) (Option.some Jvm.ClassFile.FieldType.boolean)) ∈ lw_all := lw_g (lw_at lw_m1 199 rfl) rfl
theorem q220 : (Jvm.Cond.methodLink "StreetWalkerModel" (48 : Nat) ({ cls := "StreetWalkerModel", name := "allFrom", desc := "(II)Z" } : Jvm.MethodName)) ∈ lw_all := lw_g (lw_at lw_m1 200 rfl) rfl
theorem q221 : (Jvm.Cond.privateMethod ({ cls := "StreetWalkerModel", name := "allFrom", desc := "(II)Z" } : Jvm.MethodName)) ∈ lw_tbl := lw_at lw_m1 201 rfl
theorem q222 : (Jvm.Cond.instanceMethod ({ cls := "StreetWalkerModel", name := "allFrom", desc := "(II)Z" } : Jvm.MethodName)) ∈ lw_all := lw_g (lw_at lw_m1 202 rfl) rfl
theorem q223 : (Jvm.Cond.code ({ cls := "StreetWalkerModel", name := "allFrom", desc := "(II)Z" } : Jvm.MethodName) prog_3_method_11_code (6 : Nat) (Option.some Jvm.ClassFile.FieldType.boolean)) ∈ lw_all := lw_g (lw_at lw_m1 203 rfl) rfl
theorem q224 : (Jvm.Cond.methodLink "StreetWalkerModel" (44 : Nat) ({ cls := "StreetWalkerModel", name := "reached", desc := "(II)I" } : Jvm.MethodName)) ∈ lw_all := lw_g (lw_at lw_m1 204 rfl) rfl
theorem q225 : (Jvm.Cond.privateMethod ({ cls := "StreetWalkerModel", name := "reached", desc := "(II)I" } : Jvm.MethodName)) ∈ lw_tbl := lw_at lw_m1 205 rfl
theorem q226 : (Jvm.Cond.instanceMethod ({ cls := "StreetWalkerModel", name := "reached", desc := "(II)I" } : Jvm.MethodName)) ∈ lw_all := lw_g (lw_at lw_m1 206 rfl) rfl
theorem q227 : (Jvm.Cond.code ({ cls := "StreetWalkerModel", name := "reached", desc := "(II)I" } : Jvm.MethodName) prog_3_method_10_code (7 : Nat) (Option.some Jvm.ClassFile.FieldType.int)) ∈ lw_all := lw_g (lw_at lw_m1 207 rfl) rfl
theorem q229 : (Jvm.Cond.instanceMethod ({ cls := "StreetWalkerModel", name := "extra", desc := "()I" } : Jvm.MethodName)) ∈ lw_all := lw_g (lw_at lw_m1 209 rfl) rfl
theorem q230 : (Jvm.Cond.selects "StreetWalkerModel" ({ cls := "StreetWalkerModel", name := "extra", desc := "()I" } : Jvm.MethodName) ({ cls := "StreetWalkerModel", name := "extra", desc := "()I" } : Jvm.MethodName)) ∈ lw_all := lw_g (lw_at lw_m1 210 rfl) rfl
theorem q231 : (Jvm.Cond.code ({ cls := "StreetWalkerModel", name := "extra", desc := "()I" } : Jvm.MethodName) prog_3_method_16_code (2 : Nat) (Option.some Jvm.ClassFile.FieldType.int)) ∈ lw_all := lw_g (lw_at lw_m1 211 rfl) rfl
theorem q232 : (Jvm.Cond.methodLink "StreetWalkerModel" (62 : Nat) ({ cls := "StreetWalkerModel", name := "first", desc := "(II)I" } : Jvm.MethodName)) ∈ lw_all := lw_g (lw_at lw_m1 212 rfl) rfl
theorem q233 : (Jvm.Cond.privateMethod ({ cls := "StreetWalkerModel", name := "first", desc := "(II)I" } : Jvm.MethodName)) ∈ lw_tbl := lw_at lw_m1 213 rfl
theorem q234 : (Jvm.Cond.instanceMethod ({ cls := "StreetWalkerModel", name := "first", desc := "(II)I" } : Jvm.MethodName)) ∈ lw_all := lw_g (lw_at lw_m1 214 rfl) rfl
theorem q235 : (Jvm.Cond.code ({ cls := "StreetWalkerModel", name := "first", desc := "(II)I" } : Jvm.MethodName) prog_3_method_15_code (10 : Nat) (Option.some Jvm.ClassFile.FieldType.int)) ∈ lw_all := lw_g (lw_at lw_m1 215 rfl) rfl
theorem q236 : (Jvm.Cond.methodLink "StreetWalkerModel" (52 : Nat) ({ cls := "StreetWalkerModel", name := "odd", desc := "()I" } : Jvm.MethodName)) ∈ lw_all := lw_g (lw_at lw_m1 216 rfl) rfl
theorem q237 : (Jvm.Cond.methodLink "StreetWalkerModel" (55 : Nat) ({ cls := "StreetWalkerModel", name := "setOf", desc := "(I)I" } : Jvm.MethodName)) ∈ lw_all := lw_g (lw_at lw_m1 217 rfl) rfl
theorem q238 : (Jvm.Cond.privateMethod ({ cls := "StreetWalkerModel", name := "setOf", desc := "(I)I" } : Jvm.MethodName)) ∈ lw_tbl := lw_at lw_m1 218 rfl
theorem q239 : (Jvm.Cond.instanceMethod ({ cls := "StreetWalkerModel", name := "setOf", desc := "(I)I" } : Jvm.MethodName)) ∈ lw_all := lw_g (lw_at lw_m1 219 rfl) rfl
theorem q240 : (Jvm.Cond.code ({ cls := "StreetWalkerModel", name := "setOf", desc := "(I)I" } : Jvm.MethodName) prog_3_method_14_code (4 : Nat) (Option.some Jvm.ClassFile.FieldType.int)) ∈ lw_all := lw_g (lw_at lw_m1 220 rfl) rfl
theorem q241 : (Jvm.Cond.methodLink "StreetWalkerModel" (58 : Nat) ({ cls := "StreetWalkerModel", name := "lengthOf", desc := "(I)I" } : Jvm.MethodName)) ∈ lw_all := lw_g (lw_at lw_m1 221 rfl) rfl
theorem q242 : (Jvm.Cond.privateMethod ({ cls := "StreetWalkerModel", name := "lengthOf", desc := "(I)I" } : Jvm.MethodName)) ∈ lw_tbl := lw_at lw_m1 222 rfl
theorem q243 : (Jvm.Cond.instanceMethod ({ cls := "StreetWalkerModel", name := "lengthOf", desc := "(I)I" } : Jvm.MethodName)) ∈ lw_all := lw_g (lw_at lw_m1 223 rfl) rfl
theorem q244 : (Jvm.Cond.code ({ cls := "StreetWalkerModel", name := "lengthOf", desc := "(I)I" } : Jvm.MethodName) prog_3_method_13_code (4 : Nat) (Option.some Jvm.ClassFile.FieldType.int)) ∈ lw_all := lw_g (lw_at lw_m1 224 rfl) rfl
theorem q245 : (Jvm.Cond.constant "StreetWalkerModel" (61 : Nat) (100000 : Int32)) ∈ lw_all := lw_g (lw_at lw_m1 225 rfl) rfl
theorem q247 : (Jvm.Cond.instanceMethod ({ cls := "StreetWalkerModel", name := "bestSet", desc := "()I" } : Jvm.MethodName)) ∈ lw_all := lw_g (lw_at lw_m1 227 rfl) rfl
theorem q248 : (Jvm.Cond.selects "StreetWalkerModel" ({ cls := "StreetWalkerModel", name := "bestSet", desc := "()I" } : Jvm.MethodName) ({ cls := "StreetWalkerModel", name := "bestSet", desc := "()I" } : Jvm.MethodName)) ∈ lw_all := lw_g (lw_at lw_m1 228 rfl) rfl
theorem q249 : (Jvm.Cond.code ({ cls := "StreetWalkerModel", name := "bestSet", desc := "()I" } : Jvm.MethodName) prog_3_method_17_code (1 : Nat) (Option.some Jvm.ClassFile.FieldType.int)) ∈ lw_all := lw_g (lw_at lw_m1 229 rfl) rfl
theorem q251 : (Jvm.Cond.instanceMethod ({ cls := "StreetWalkerModel", name := "extraWith", desc := "(I)I" } : Jvm.MethodName)) ∈ lw_all := lw_g (lw_at lw_m1 231 rfl) rfl
theorem q252 : (Jvm.Cond.selects "StreetWalkerModel" ({ cls := "StreetWalkerModel", name := "extraWith", desc := "(I)I" } : Jvm.MethodName) ({ cls := "StreetWalkerModel", name := "extraWith", desc := "(I)I" } : Jvm.MethodName)) ∈ lw_all := lw_g (lw_at lw_m1 232 rfl) rfl
theorem q253 : (Jvm.Cond.code ({ cls := "StreetWalkerModel", name := "extraWith", desc := "(I)I" } : Jvm.MethodName) prog_3_method_18_code (3 : Nat) (Option.some Jvm.ClassFile.FieldType.int)) ∈ lw_all := lw_g (lw_at lw_m1 233 rfl) rfl
theorem q255 : (Jvm.Cond.instanceMethod ({ cls := "StreetWalkerModel", name := "extraWithout", desc := "(I)I" } : Jvm.MethodName)) ∈ lw_all := lw_g (lw_at lw_m1 235 rfl) rfl
theorem q256 : (Jvm.Cond.selects "StreetWalkerModel" ({ cls := "StreetWalkerModel", name := "extraWithout", desc := "(I)I" } : Jvm.MethodName) ({ cls := "StreetWalkerModel", name := "extraWithout", desc := "(I)I" } : Jvm.MethodName)) ∈ lw_all := lw_g (lw_at lw_m1 236 rfl) rfl
theorem q257 : (Jvm.Cond.code ({ cls := "StreetWalkerModel", name := "extraWithout", desc := "(I)I" } : Jvm.MethodName) prog_3_method_19_code (3 : Nat) (Option.some Jvm.ClassFile.FieldType.int)) ∈ lw_all := lw_g (lw_at lw_m1 237 rfl) rfl
theorem q259 : (Jvm.Cond.instanceMethod ({ cls := "StreetWalkerModel", name := "way", desc := "(II)I" } : Jvm.MethodName)) ∈ lw_all := lw_g (lw_at lw_m1 239 rfl) rfl
theorem q260 : (Jvm.Cond.selects "StreetWalkerModel" ({ cls := "StreetWalkerModel", name := "way", desc := "(II)I" } : Jvm.MethodName) ({ cls := "StreetWalkerModel", name := "way", desc := "(II)I" } : Jvm.MethodName)) ∈ lw_all := lw_g (lw_at lw_m2 0 rfl) rfl
theorem q261 : (Jvm.Cond.code ({ cls := "StreetWalkerModel", name := "way", desc := "(II)I" } : Jvm.MethodName) prog_3_method_20_code (7 : Nat) (Option.some Jvm.ClassFile.FieldType.int)) ∈ lw_all := lw_g (lw_at lw_m2 1 rfl) rfl
theorem q263 : (Jvm.Cond.instanceMethod ({ cls := "StreetWalkerModel", name := "walkLength", desc := "()I" } : Jvm.MethodName)) ∈ lw_all := lw_g (lw_at lw_m2 3 rfl) rfl
theorem q264 : (Jvm.Cond.selects "StreetWalkerModel" ({ cls := "StreetWalkerModel", name := "walkLength", desc := "()I" } : Jvm.MethodName) ({ cls := "StreetWalkerModel", name := "walkLength", desc := "()I" } : Jvm.MethodName)) ∈ lw_all := lw_g (lw_at lw_m2 4 rfl) rfl
theorem q265 : (Jvm.Cond.code ({ cls := "StreetWalkerModel", name := "walkLength", desc := "()I" } : Jvm.MethodName) prog_3_method_21_code (3 : Nat) (Option.some Jvm.ClassFile.FieldType.int)) ∈ lw_all := lw_g (lw_at lw_m2 5 rfl) rfl
theorem q266 : (Jvm.Cond.methodLink "StreetWalkerModel" (65 : Nat) ({ cls := "StreetWalkerModel", name := "bestSet", desc := "()I" } : Jvm.MethodName)) ∈ lw_all := lw_g (lw_at lw_m2 6 rfl) rfl
theorem q267 : (Jvm.Cond.methodLink "StreetWalkerModel" (68 : Nat) ({ cls := "StreetWalkerModel", name := "connected", desc := "()Z" } : Jvm.MethodName)) ∈ lw_all := lw_g (lw_at lw_m2 7 rfl) rfl
theorem q269 : (Jvm.Cond.instanceMethod ({ cls := "StreetWalkerModel", name := "walkAt", desc := "(II)I" } : Jvm.MethodName)) ∈ lw_all := lw_g (lw_at lw_m2 9 rfl) rfl
theorem q270 : (Jvm.Cond.selects "StreetWalkerModel" ({ cls := "StreetWalkerModel", name := "walkAt", desc := "(II)I" } : Jvm.MethodName) ({ cls := "StreetWalkerModel", name := "walkAt", desc := "(II)I" } : Jvm.MethodName)) ∈ lw_all := lw_g (lw_at lw_m2 10 rfl) rfl
theorem q271 : (Jvm.Cond.code ({ cls := "StreetWalkerModel", name := "walkAt", desc := "(II)I" } : Jvm.MethodName) prog_3_method_24_code (8 : Nat) (Option.some Jvm.ClassFile.FieldType.int)) ∈ lw_all := lw_g (lw_at lw_m2 11 rfl) rfl
theorem q272 : (Jvm.Cond.methodLink "StreetWalkerModel" (75 : Nat) ({ cls := "StreetWalkerModel", name := "walkLength", desc := "()I" } : Jvm.MethodName)) ∈ lw_all := lw_g (lw_at lw_m2 12 rfl) rfl
theorem q273 : (Jvm.Cond.methodLink "StreetWalkerModel" (78 : Nat) ({ cls := "StreetWalkerModel", name := "nextStreet", desc := "(I)I" } : Jvm.MethodName)) ∈ lw_all := lw_g (lw_at lw_m2 13 rfl) rfl
theorem q274 : (Jvm.Cond.privateMethod ({ cls := "StreetWalkerModel", name := "nextStreet", desc := "(I)I" } : Jvm.MethodName)) ∈ lw_tbl := lw_at lw_m2 14 rfl
theorem q275 : (Jvm.Cond.instanceMethod ({ cls := "StreetWalkerModel", name := "nextStreet", desc := "(I)I" } : Jvm.MethodName)) ∈ lw_all := lw_g (lw_at lw_m2 15 rfl) rfl
theorem q276 : (Jvm.Cond.code ({ cls := "StreetWalkerModel", name := "nextStreet", desc := "(I)I" } : Jvm.MethodName) prog_3_method_23_code (5 : Nat) (Option.some Jvm.ClassFile.FieldType.int)) ∈ lw_all := lw_g (lw_at lw_m2 16 rfl) rfl
theorem q277 : (Jvm.Cond.methodLink "StreetWalkerModel" (72 : Nat) ({ cls := "StreetWalkerModel", name := "rest", desc := "()I" } : Jvm.MethodName)) ∈ lw_all := lw_g (lw_at lw_m2 17 rfl) rfl
theorem q278 : (Jvm.Cond.privateMethod ({ cls := "StreetWalkerModel", name := "rest", desc := "()I" } : Jvm.MethodName)) ∈ lw_tbl := lw_at lw_m2 18 rfl
theorem q279 : (Jvm.Cond.instanceMethod ({ cls := "StreetWalkerModel", name := "rest", desc := "()I" } : Jvm.MethodName)) ∈ lw_all := lw_g (lw_at lw_m2 19 rfl) rfl
theorem q280 : (Jvm.Cond.code ({ cls := "StreetWalkerModel", name := "rest", desc := "()I" } : Jvm.MethodName) prog_3_method_22_code (3 : Nat) (Option.some Jvm.ClassFile.FieldType.int)) ∈ lw_all := lw_g (lw_at lw_m2 20 rfl) rfl
theorem in_X1 : ∀ w ∈ wsX10, w ∈ lw_all := lw_in wsX10 [169, 171, 173, 175, 177, 179] (by decide +kernel) (by decide +kernel)
theorem q20 : (Jvm.Cond.initialized "StreetWalkerLaw") ∈ lw_all := lw_g (lw_at lw_m1 0 rfl) rfl
theorem q23 : (Jvm.Cond.classLink "StreetWalkerLaw" (7 : Nat) "StreetWalker") ∈ lw_all := lw_g (lw_at lw_m1 3 rfl) rfl
theorem q25 : (Jvm.Cond.methodLink "StreetWalkerLaw" (9 : Nat) ({ cls := "StreetWalker", name := "<init>", desc := "()V" } : Jvm.MethodName)) ∈ lw_all := lw_g (lw_at lw_m1 5 rfl) rfl
theorem q55 : (Jvm.Cond.methodLink "StreetWalkerLaw" (13 : Nat) ({ cls := "StreetWalker", name := "build", desc := "(III)I" } : Jvm.MethodName)) ∈ lw_all := lw_g (lw_at lw_m1 35 rfl) rfl
theorem q66 : (Jvm.Cond.methodLink "StreetWalkerLaw" (18 : Nat) ({ cls := "StreetWalker", name := "close", desc := "(I)Z" } : Jvm.MethodName)) ∈ lw_all := lw_g (lw_at lw_m1 46 rfl) rfl
theorem q70 : (Jvm.Cond.methodLink "StreetWalkerLaw" (23 : Nat) ({ cls := "StreetWalker", name := "setLength", desc := "(II)Z" } : Jvm.MethodName)) ∈ lw_all := lw_g (lw_at lw_m1 50 rfl) rfl
theorem q74 : (Jvm.Cond.methodLink "StreetWalkerLaw" (28 : Nat) ({ cls := "StreetWalker", name := "streets", desc := "()I" } : Jvm.MethodName)) ∈ lw_all := lw_g (lw_at lw_m1 54 rfl) rfl
theorem q78 : (Jvm.Cond.methodLink "StreetWalkerLaw" (33 : Nat) ({ cls := "StreetWalker", name := "odd", desc := "()I" } : Jvm.MethodName)) ∈ lw_all := lw_g (lw_at lw_m1 58 rfl) rfl
theorem q86 : (Jvm.Cond.methodLink "StreetWalkerLaw" (37 : Nat) ({ cls := "StreetWalker", name := "connected", desc := "()Z" } : Jvm.MethodName)) ∈ lw_all := lw_g (lw_at lw_m1 66 rfl) rfl
theorem q98 : (Jvm.Cond.methodLink "StreetWalkerLaw" (42 : Nat) ({ cls := "StreetWalker", name := "extra", desc := "()I" } : Jvm.MethodName)) ∈ lw_all := lw_g (lw_at lw_m1 78 rfl) rfl
theorem q121 : (Jvm.Cond.methodLink "StreetWalkerLaw" (46 : Nat) ({ cls := "StreetWalker", name := "bestSet", desc := "()I" } : Jvm.MethodName)) ∈ lw_all := lw_g (lw_at lw_m1 101 rfl) rfl
theorem q125 : (Jvm.Cond.methodLink "StreetWalkerLaw" (50 : Nat) ({ cls := "StreetWalker", name := "extraWith", desc := "(I)I" } : Jvm.MethodName)) ∈ lw_all := lw_g (lw_at lw_m1 105 rfl) rfl
theorem q129 : (Jvm.Cond.methodLink "StreetWalkerLaw" (55 : Nat) ({ cls := "StreetWalker", name := "extraWithout", desc := "(I)I" } : Jvm.MethodName)) ∈ lw_all := lw_g (lw_at lw_m1 109 rfl) rfl
theorem q133 : (Jvm.Cond.methodLink "StreetWalkerLaw" (59 : Nat) ({ cls := "StreetWalker", name := "way", desc := "(II)I" } : Jvm.MethodName)) ∈ lw_all := lw_g (lw_at lw_m1 113 rfl) rfl
theorem q137 : (Jvm.Cond.methodLink "StreetWalkerLaw" (64 : Nat) ({ cls := "StreetWalker", name := "walkLength", desc := "()I" } : Jvm.MethodName)) ∈ lw_all := lw_g (lw_at lw_m1 117 rfl) rfl
theorem q143 : (Jvm.Cond.methodLink "StreetWalkerLaw" (68 : Nat) ({ cls := "StreetWalker", name := "walkAt", desc := "(II)I" } : Jvm.MethodName)) ∈ lw_all := lw_g (lw_at lw_m1 123 rfl) rfl
theorem q157 : (Jvm.Cond.classLink "StreetWalkerLaw" (10 : Nat) "StreetWalkerModel") ∈ lw_all := lw_g (lw_at lw_m1 137 rfl) rfl
theorem q159 : (Jvm.Cond.methodLink "StreetWalkerLaw" (12 : Nat) ({ cls := "StreetWalkerModel", name := "<init>", desc := "()V" } : Jvm.MethodName)) ∈ lw_all := lw_g (lw_at lw_m1 139 rfl) rfl
theorem q183 : (Jvm.Cond.methodLink "StreetWalkerLaw" (17 : Nat) ({ cls := "StreetWalkerModel", name := "build", desc := "(III)I" } : Jvm.MethodName)) ∈ lw_all := lw_g (lw_at lw_m1 163 rfl) rfl
theorem q191 : (Jvm.Cond.methodLink "StreetWalkerLaw" (22 : Nat) ({ cls := "StreetWalkerModel", name := "close", desc := "(I)Z" } : Jvm.MethodName)) ∈ lw_all := lw_g (lw_at lw_m1 171 rfl) rfl
theorem q199 : (Jvm.Cond.methodLink "StreetWalkerLaw" (27 : Nat) ({ cls := "StreetWalkerModel", name := "setLength", desc := "(II)Z" } : Jvm.MethodName)) ∈ lw_all := lw_g (lw_at lw_m1 179 rfl) rfl
theorem q203 : (Jvm.Cond.methodLink "StreetWalkerLaw" (32 : Nat) ({ cls := "StreetWalkerModel", name := "streets", desc := "()I" } : Jvm.MethodName)) ∈ lw_all := lw_g (lw_at lw_m1 183 rfl) rfl
theorem q207 : (Jvm.Cond.methodLink "StreetWalkerLaw" (36 : Nat) ({ cls := "StreetWalkerModel", name := "odd", desc := "()I" } : Jvm.MethodName)) ∈ lw_all := lw_g (lw_at lw_m1 187 rfl) rfl
theorem q216 : (Jvm.Cond.methodLink "StreetWalkerLaw" (41 : Nat) ({ cls := "StreetWalkerModel", name := "connected", desc := "()Z" } : Jvm.MethodName)) ∈ lw_all := lw_g (lw_at lw_m1 196 rfl) rfl
theorem q228 : (Jvm.Cond.methodLink "StreetWalkerLaw" (45 : Nat) ({ cls := "StreetWalkerModel", name := "extra", desc := "()I" } : Jvm.MethodName)) ∈ lw_all := lw_g (lw_at lw_m1 208 rfl) rfl
theorem q246 : (Jvm.Cond.methodLink "StreetWalkerLaw" (49 : Nat) ({ cls := "StreetWalkerModel", name := "bestSet", desc := "()I" } : Jvm.MethodName)) ∈ lw_all := lw_g (lw_at lw_m1 226 rfl) rfl
theorem q250 : (Jvm.Cond.methodLink "StreetWalkerLaw" (54 : Nat) ({ cls := "StreetWalkerModel", name := "extraWith", desc := "(I)I" } : Jvm.MethodName)) ∈ lw_all := lw_g (lw_at lw_m1 230 rfl) rfl
theorem q254 : (Jvm.Cond.methodLink "StreetWalkerLaw" (58 : Nat) ({ cls := "StreetWalkerModel", name := "extraWithout", desc := "(I)I" } : Jvm.MethodName)) ∈ lw_all := lw_g (lw_at lw_m1 234 rfl) rfl
theorem q258 : (Jvm.Cond.methodLink "StreetWalkerLaw" (63 : Nat) ({ cls := "StreetWalkerModel", name := "way", desc := "(II)I" } : Jvm.MethodName)) ∈ lw_all := lw_g (lw_at lw_m1 238 rfl) rfl
theorem q262 : (Jvm.Cond.methodLink "StreetWalkerLaw" (67 : Nat) ({ cls := "StreetWalkerModel", name := "walkLength", desc := "()I" } : Jvm.MethodName)) ∈ lw_all := lw_g (lw_at lw_m2 2 rfl) rfl
theorem q268 : (Jvm.Cond.methodLink "StreetWalkerLaw" (71 : Nat) ({ cls := "StreetWalkerModel", name := "walkAt", desc := "(II)I" } : Jvm.MethodName)) ∈ lw_all := lw_g (lw_at lw_m2 8 rfl) rfl
theorem q53 : (Jvm.Cond.arrayClass Jvm.ClassFile.FieldType.byte) ∈ lw_all := lw_g (lw_at lw_m1 33 rfl) rfl
theorem q54 : (Jvm.Cond.arrayClass Jvm.ClassFile.FieldType.int) ∈ lw_all := lw_g (lw_at lw_m1 34 rfl) rfl
theorem q182 : (Jvm.Cond.arrayClass Jvm.ClassFile.FieldType.boolean) ∈ lw_all := lw_g (lw_at lw_m1 162 rfl) rfl
theorem dJ0_init_0 : decode cJ0_init 0 = .ok (.return_, 1) := by decide +kernel
end
section
set_option maxRecDepth 100000
theorem dX0_init_0 : decode cX0_init 0 = .ok (.aload_n 0, 1) := by decide +kernel
theorem dX0_init_1 : decode cX0_init 1 = .ok (.invokespecial 1, 3) := by decide +kernel
theorem dX0_init_4 : decode cX0_init 4 = .ok (.aload_n 0, 1) := by decide +kernel
theorem dX0_init_5 : decode cX0_init 5 = .ok (.bipush 10, 2) := by decide +kernel
theorem dX0_init_7 : decode cX0_init 7 = .ok (.newarray .byte, 2) := by decide +kernel
theorem dX0_init_9 : decode cX0_init 9 = .ok (.putfield 7, 3) := by decide +kernel
theorem dX0_init_12 : decode cX0_init 12 = .ok (.aload_n 0, 1) := by decide +kernel
theorem dX0_init_13 : decode cX0_init 13 = .ok (.bipush 10, 2) := by decide +kernel
theorem dX0_init_15 : decode cX0_init 15 = .ok (.newarray .byte, 2) := by decide +kernel
theorem dX0_init_17 : decode cX0_init 17 = .ok (.putfield 13, 3) := by decide +kernel
theorem dX0_init_20 : decode cX0_init 20 = .ok (.aload_n 0, 1) := by decide +kernel
theorem dX0_init_21 : decode cX0_init 21 = .ok (.bipush 10, 2) := by decide +kernel
theorem dX0_init_23 : decode cX0_init 23 = .ok (.newarray .byte, 2) := by decide +kernel
theorem dX0_init_25 : decode cX0_init 25 = .ok (.putfield 16, 3) := by decide +kernel
theorem dX0_init_28 : decode cX0_init 28 = .ok (.aload_n 0, 1) := by decide +kernel
theorem dX0_init_29 : decode cX0_init 29 = .ok (.bipush 36, 2) := by decide +kernel
theorem dX0_init_31 : decode cX0_init 31 = .ok (.newarray .int, 2) := by decide +kernel
theorem dX0_init_33 : decode cX0_init 33 = .ok (.putfield 19, 3) := by decide +kernel
theorem dX0_init_36 : decode cX0_init 36 = .ok (.aload_n 0, 1) := by decide +kernel
theorem dX0_init_37 : decode cX0_init 37 = .ok (.bipush 64, 2) := by decide +kernel
theorem dX0_init_39 : decode cX0_init 39 = .ok (.newarray .int, 2) := by decide +kernel
theorem dX0_init_41 : decode cX0_init 41 = .ok (.putfield 23, 3) := by decide +kernel
theorem dX0_init_44 : decode cX0_init 44 = .ok (.aload_n 0, 1) := by decide +kernel
theorem dX0_init_45 : decode cX0_init 45 = .ok (.bipush 10, 2) := by decide +kernel
theorem dX0_init_47 : decode cX0_init 47 = .ok (.newarray .byte, 2) := by decide +kernel
theorem dX0_init_49 : decode cX0_init 49 = .ok (.putfield 26, 3) := by decide +kernel
theorem dX0_init_52 : decode cX0_init 52 = .ok (.return_, 1) := by decide +kernel
theorem dX0_build_0 : decode cX0_build 0 = .ok (.iload_n 1, 1) := by decide +kernel
theorem dX0_build_1 : decode cX0_build 1 = .ok (.iload_n 2, 1) := by decide +kernel
theorem dX0_build_2 : decode cX0_build 2 = .ok (.if_icmp .eq 27, 3) := by decide +kernel
theorem dX0_build_5 : decode cX0_build 5 = .ok (.iload_n 1, 1) := by decide +kernel
theorem dX0_build_6 : decode cX0_build 6 = .ok (.invokestatic 33, 3) := by decide +kernel
theorem dX0_build_9 : decode cX0_build 9 = .ok (.ifCond .eq 20, 3) := by decide +kernel
theorem dX0_build_12 : decode cX0_build 12 = .ok (.iload_n 2, 1) := by decide +kernel
theorem dX0_build_13 : decode cX0_build 13 = .ok (.invokestatic 33, 3) := by decide +kernel
theorem dX0_build_16 : decode cX0_build 16 = .ok (.ifCond .eq 13, 3) := by decide +kernel
theorem dX0_build_19 : decode cX0_build 19 = .ok (.iload_n 3, 1) := by decide +kernel
theorem dX0_build_20 : decode cX0_build 20 = .ok (.ifCond .lt 9, 3) := by decide +kernel
theorem dX0_build_23 : decode cX0_build 23 = .ok (.iload_n 3, 1) := by decide +kernel
theorem dX0_build_24 : decode cX0_build 24 = .ok (.bipush 20, 2) := by decide +kernel
theorem dX0_build_26 : decode cX0_build 26 = .ok (.if_icmp .le 5, 3) := by decide +kernel
theorem dX0_build_29 : decode cX0_build 29 = .ok (.iconst (-1), 1) := by decide +kernel
theorem dX0_build_30 : decode cX0_build 30 = .ok (.ireturn, 1) := by decide +kernel
theorem dX0_build_31 : decode cX0_build 31 = .ok (.iconst 0, 1) := by decide +kernel
theorem dX0_build_32 : decode cX0_build 32 = .ok (.istore 4, 2) := by decide +kernel
theorem dX0_build_34 : decode cX0_build 34 = .ok (.iload 4, 2) := by decide +kernel
theorem dX0_build_36 : decode cX0_build 36 = .ok (.bipush 10, 2) := by decide +kernel
theorem dX0_build_38 : decode cX0_build 38 = .ok (.if_icmp .ge 61, 3) := by decide +kernel
theorem dX0_build_41 : decode cX0_build 41 = .ok (.aload_n 0, 1) := by decide +kernel
theorem dX0_build_42 : decode cX0_build 42 = .ok (.iload 4, 2) := by decide +kernel
theorem dX0_build_44 : decode cX0_build 44 = .ok (.invokevirtual 37, 3) := by decide +kernel
theorem dX0_build_47 : decode cX0_build 47 = .ok (.ifCond .ne 46, 3) := by decide +kernel
theorem dX0_build_50 : decode cX0_build 50 = .ok (.aload_n 0, 1) := by decide +kernel
theorem dX0_build_51 : decode cX0_build 51 = .ok (.dup, 1) := by decide +kernel
theorem dX0_build_52 : decode cX0_build 52 = .ok (.getfield 29, 3) := by decide +kernel
theorem dX0_build_55 : decode cX0_build 55 = .ok (.iconst 1, 1) := by decide +kernel
theorem dX0_build_56 : decode cX0_build 56 = .ok (.iload 4, 2) := by decide +kernel
theorem dX0_build_58 : decode cX0_build 58 = .ok (.ishl, 1) := by decide +kernel
theorem dX0_build_59 : decode cX0_build 59 = .ok (.ior, 1) := by decide +kernel
theorem dX0_build_60 : decode cX0_build 60 = .ok (.putfield 29, 3) := by decide +kernel
theorem dX0_build_63 : decode cX0_build 63 = .ok (.aload_n 0, 1) := by decide +kernel
theorem dX0_build_64 : decode cX0_build 64 = .ok (.getfield 7, 3) := by decide +kernel
theorem dX0_build_67 : decode cX0_build 67 = .ok (.iload 4, 2) := by decide +kernel
theorem dX0_build_69 : decode cX0_build 69 = .ok (.iload_n 1, 1) := by decide +kernel
theorem dX0_build_70 : decode cX0_build 70 = .ok (.i2b, 1) := by decide +kernel
theorem dX0_build_71 : decode cX0_build 71 = .ok (.bastore, 1) := by decide +kernel
theorem dX0_build_72 : decode cX0_build 72 = .ok (.aload_n 0, 1) := by decide +kernel
theorem dX0_build_73 : decode cX0_build 73 = .ok (.getfield 13, 3) := by decide +kernel
theorem dX0_build_76 : decode cX0_build 76 = .ok (.iload 4, 2) := by decide +kernel
theorem dX0_build_78 : decode cX0_build 78 = .ok (.iload_n 2, 1) := by decide +kernel
theorem dX0_build_79 : decode cX0_build 79 = .ok (.i2b, 1) := by decide +kernel
theorem dX0_build_80 : decode cX0_build 80 = .ok (.bastore, 1) := by decide +kernel
theorem dX0_build_81 : decode cX0_build 81 = .ok (.aload_n 0, 1) := by decide +kernel
theorem dX0_build_82 : decode cX0_build 82 = .ok (.getfield 16, 3) := by decide +kernel
theorem dX0_build_85 : decode cX0_build 85 = .ok (.iload 4, 2) := by decide +kernel
theorem dX0_build_87 : decode cX0_build 87 = .ok (.iload_n 3, 1) := by decide +kernel
theorem dX0_build_88 : decode cX0_build 88 = .ok (.i2b, 1) := by decide +kernel
theorem dX0_build_89 : decode cX0_build 89 = .ok (.bastore, 1) := by decide +kernel
theorem dX0_build_90 : decode cX0_build 90 = .ok (.iload 4, 2) := by decide +kernel
theorem dX0_build_92 : decode cX0_build 92 = .ok (.ireturn, 1) := by decide +kernel
theorem dX0_build_93 : decode cX0_build 93 = .ok (.iinc 4 1, 3) := by decide +kernel
theorem dX0_build_96 : decode cX0_build 96 = .ok (.goto (-62), 3) := by decide +kernel
theorem dX0_build_99 : decode cX0_build 99 = .ok (.bipush (-2), 2) := by decide +kernel
theorem dX0_build_101 : decode cX0_build 101 = .ok (.ireturn, 1) := by decide +kernel
theorem dX0_isCorner_0 : decode cX0_isCorner 0 = .ok (.iload_n 0, 1) := by decide +kernel
theorem dX0_isCorner_1 : decode cX0_isCorner 1 = .ok (.ifCond .lt 13, 3) := by decide +kernel
theorem dX0_isCorner_4 : decode cX0_isCorner 4 = .ok (.iload_n 0, 1) := by decide +kernel
theorem dX0_isCorner_5 : decode cX0_isCorner 5 = .ok (.bipush 6, 2) := by decide +kernel
theorem dX0_isCorner_7 : decode cX0_isCorner 7 = .ok (.if_icmp .ge 7, 3) := by decide +kernel
theorem dX0_isCorner_10 : decode cX0_isCorner 10 = .ok (.iconst 1, 1) := by decide +kernel
theorem dX0_isCorner_11 : decode cX0_isCorner 11 = .ok (.goto 4, 3) := by decide +kernel
theorem dX0_isCorner_14 : decode cX0_isCorner 14 = .ok (.iconst 0, 1) := by decide +kernel
theorem dX0_isCorner_15 : decode cX0_isCorner 15 = .ok (.ireturn, 1) := by decide +kernel
theorem dX0_has_0 : decode cX0_has 0 = .ok (.iload_n 1, 1) := by decide +kernel
theorem dX0_has_1 : decode cX0_has 1 = .ok (.ifCond .lt 24, 3) := by decide +kernel
theorem dX0_has_4 : decode cX0_has 4 = .ok (.iload_n 1, 1) := by decide +kernel
theorem dX0_has_5 : decode cX0_has 5 = .ok (.bipush 10, 2) := by decide +kernel
theorem dX0_has_7 : decode cX0_has 7 = .ok (.if_icmp .ge 18, 3) := by decide +kernel
theorem dX0_has_10 : decode cX0_has 10 = .ok (.aload_n 0, 1) := by decide +kernel
theorem dX0_has_11 : decode cX0_has 11 = .ok (.getfield 29, 3) := by decide +kernel
theorem dX0_has_14 : decode cX0_has 14 = .ok (.iload_n 1, 1) := by decide +kernel
theorem dX0_has_15 : decode cX0_has 15 = .ok (.ishr, 1) := by decide +kernel
theorem dX0_has_16 : decode cX0_has 16 = .ok (.iconst 1, 1) := by decide +kernel
theorem dX0_has_17 : decode cX0_has 17 = .ok (.iand, 1) := by decide +kernel
theorem dX0_has_18 : decode cX0_has 18 = .ok (.ifCond .eq 7, 3) := by decide +kernel
theorem dX0_has_21 : decode cX0_has 21 = .ok (.iconst 1, 1) := by decide +kernel
theorem dX0_has_22 : decode cX0_has 22 = .ok (.goto 4, 3) := by decide +kernel
theorem dX0_has_25 : decode cX0_has 25 = .ok (.iconst 0, 1) := by decide +kernel
theorem dX0_has_26 : decode cX0_has 26 = .ok (.ireturn, 1) := by decide +kernel
theorem dX0_close_0 : decode cX0_close 0 = .ok (.aload_n 0, 1) := by decide +kernel
theorem dX0_close_1 : decode cX0_close 1 = .ok (.iload_n 1, 1) := by decide +kernel
theorem dX0_close_2 : decode cX0_close 2 = .ok (.invokevirtual 37, 3) := by decide +kernel
theorem dX0_close_5 : decode cX0_close 5 = .ok (.ifCond .ne 5, 3) := by decide +kernel
theorem dX0_close_8 : decode cX0_close 8 = .ok (.iconst 0, 1) := by decide +kernel
theorem dX0_close_9 : decode cX0_close 9 = .ok (.ireturn, 1) := by decide +kernel
theorem dX0_close_10 : decode cX0_close 10 = .ok (.aload_n 0, 1) := by decide +kernel
theorem dX0_close_11 : decode cX0_close 11 = .ok (.dup, 1) := by decide +kernel
theorem dX0_close_12 : decode cX0_close 12 = .ok (.getfield 29, 3) := by decide +kernel
theorem dX0_close_15 : decode cX0_close 15 = .ok (.iconst 1, 1) := by decide +kernel
theorem dX0_close_16 : decode cX0_close 16 = .ok (.iload_n 1, 1) := by decide +kernel
theorem dX0_close_17 : decode cX0_close 17 = .ok (.ishl, 1) := by decide +kernel
theorem dX0_close_18 : decode cX0_close 18 = .ok (.iconst (-1), 1) := by decide +kernel
theorem dX0_close_19 : decode cX0_close 19 = .ok (.ixor, 1) := by decide +kernel
theorem dX0_close_20 : decode cX0_close 20 = .ok (.iand, 1) := by decide +kernel
theorem dX0_close_21 : decode cX0_close 21 = .ok (.putfield 29, 3) := by decide +kernel
theorem dX0_close_24 : decode cX0_close 24 = .ok (.iconst 1, 1) := by decide +kernel
theorem dX0_close_25 : decode cX0_close 25 = .ok (.ireturn, 1) := by decide +kernel
theorem dX0_setLength_0 : decode cX0_setLength 0 = .ok (.aload_n 0, 1) := by decide +kernel
theorem dX0_setLength_1 : decode cX0_setLength 1 = .ok (.iload_n 1, 1) := by decide +kernel
theorem dX0_setLength_2 : decode cX0_setLength 2 = .ok (.invokevirtual 37, 3) := by decide +kernel
theorem dX0_setLength_5 : decode cX0_setLength 5 = .ok (.ifCond .eq 13, 3) := by decide +kernel
theorem dX0_setLength_8 : decode cX0_setLength 8 = .ok (.iload_n 2, 1) := by decide +kernel
theorem dX0_setLength_9 : decode cX0_setLength 9 = .ok (.ifCond .lt 9, 3) := by decide +kernel
theorem dX0_setLength_12 : decode cX0_setLength 12 = .ok (.iload_n 2, 1) := by decide +kernel
theorem dX0_setLength_13 : decode cX0_setLength 13 = .ok (.bipush 20, 2) := by decide +kernel
theorem dX0_setLength_15 : decode cX0_setLength 15 = .ok (.if_icmp .le 5, 3) := by decide +kernel
theorem dX0_setLength_18 : decode cX0_setLength 18 = .ok (.iconst 0, 1) := by decide +kernel
theorem dX0_setLength_19 : decode cX0_setLength 19 = .ok (.ireturn, 1) := by decide +kernel
theorem dX0_setLength_20 : decode cX0_setLength 20 = .ok (.aload_n 0, 1) := by decide +kernel
theorem dX0_setLength_21 : decode cX0_setLength 21 = .ok (.getfield 16, 3) := by decide +kernel
theorem dX0_setLength_24 : decode cX0_setLength 24 = .ok (.iload_n 1, 1) := by decide +kernel
theorem dX0_setLength_25 : decode cX0_setLength 25 = .ok (.iload_n 2, 1) := by decide +kernel
theorem dX0_setLength_26 : decode cX0_setLength 26 = .ok (.i2b, 1) := by decide +kernel
theorem dX0_setLength_27 : decode cX0_setLength 27 = .ok (.bastore, 1) := by decide +kernel
theorem dX0_setLength_28 : decode cX0_setLength 28 = .ok (.iconst 1, 1) := by decide +kernel
theorem dX0_setLength_29 : decode cX0_setLength 29 = .ok (.ireturn, 1) := by decide +kernel
theorem dX0_streets_0 : decode cX0_streets 0 = .ok (.aload_n 0, 1) := by decide +kernel
theorem dX0_streets_1 : decode cX0_streets 1 = .ok (.getfield 29, 3) := by decide +kernel
theorem dX0_streets_4 : decode cX0_streets 4 = .ok (.ireturn, 1) := by decide +kernel
theorem dX0_odd_0 : decode cX0_odd 0 = .ok (.iconst 0, 1) := by decide +kernel
theorem dX0_odd_1 : decode cX0_odd 1 = .ok (.istore_n 1, 1) := by decide +kernel
theorem dX0_odd_2 : decode cX0_odd 2 = .ok (.iconst 0, 1) := by decide +kernel
theorem dX0_odd_3 : decode cX0_odd 3 = .ok (.istore_n 2, 1) := by decide +kernel
theorem dX0_odd_4 : decode cX0_odd 4 = .ok (.iload_n 2, 1) := by decide +kernel
theorem dX0_odd_5 : decode cX0_odd 5 = .ok (.bipush 10, 2) := by decide +kernel
theorem dX0_odd_7 : decode cX0_odd 7 = .ok (.if_icmp .ge 25, 3) := by decide +kernel
theorem dX0_odd_10 : decode cX0_odd 10 = .ok (.aload_n 0, 1) := by decide +kernel
theorem dX0_odd_11 : decode cX0_odd 11 = .ok (.iload_n 2, 1) := by decide +kernel
theorem dX0_odd_12 : decode cX0_odd 12 = .ok (.invokevirtual 37, 3) := by decide +kernel
theorem dX0_odd_15 : decode cX0_odd 15 = .ok (.ifCond .eq 11, 3) := by decide +kernel
theorem dX0_odd_18 : decode cX0_odd 18 = .ok (.iload_n 1, 1) := by decide +kernel
theorem dX0_odd_19 : decode cX0_odd 19 = .ok (.aload_n 0, 1) := by decide +kernel
theorem dX0_odd_20 : decode cX0_odd 20 = .ok (.iload_n 2, 1) := by decide +kernel
theorem dX0_odd_21 : decode cX0_odd 21 = .ok (.invokevirtual 40, 3) := by decide +kernel
theorem dX0_odd_24 : decode cX0_odd 24 = .ok (.ixor, 1) := by decide +kernel
theorem dX0_odd_25 : decode cX0_odd 25 = .ok (.istore_n 1, 1) := by decide +kernel
theorem dX0_odd_26 : decode cX0_odd 26 = .ok (.iinc 2 1, 3) := by decide +kernel
theorem dX0_odd_29 : decode cX0_odd 29 = .ok (.goto (-25), 3) := by decide +kernel
theorem dX0_odd_32 : decode cX0_odd 32 = .ok (.iload_n 1, 1) := by decide +kernel
theorem dX0_odd_33 : decode cX0_odd 33 = .ok (.ireturn, 1) := by decide +kernel
theorem dX0_endsOf_0 : decode cX0_endsOf 0 = .ok (.iconst 1, 1) := by decide +kernel
theorem dX0_endsOf_1 : decode cX0_endsOf 1 = .ok (.aload_n 0, 1) := by decide +kernel
theorem dX0_endsOf_2 : decode cX0_endsOf 2 = .ok (.getfield 7, 3) := by decide +kernel
theorem dX0_endsOf_5 : decode cX0_endsOf 5 = .ok (.iload_n 1, 1) := by decide +kernel
theorem dX0_endsOf_6 : decode cX0_endsOf 6 = .ok (.baload, 1) := by decide +kernel
theorem dX0_endsOf_7 : decode cX0_endsOf 7 = .ok (.ishl, 1) := by decide +kernel
theorem dX0_endsOf_8 : decode cX0_endsOf 8 = .ok (.iconst 1, 1) := by decide +kernel
theorem dX0_endsOf_9 : decode cX0_endsOf 9 = .ok (.aload_n 0, 1) := by decide +kernel
theorem dX0_endsOf_10 : decode cX0_endsOf 10 = .ok (.getfield 13, 3) := by decide +kernel
theorem dX0_endsOf_13 : decode cX0_endsOf 13 = .ok (.iload_n 1, 1) := by decide +kernel
theorem dX0_endsOf_14 : decode cX0_endsOf 14 = .ok (.baload, 1) := by decide +kernel
theorem dX0_endsOf_15 : decode cX0_endsOf 15 = .ok (.ishl, 1) := by decide +kernel
theorem dX0_endsOf_16 : decode cX0_endsOf 16 = .ok (.ior, 1) := by decide +kernel
theorem dX0_endsOf_17 : decode cX0_endsOf 17 = .ok (.ireturn, 1) := by decide +kernel
theorem dX0_connected_0 : decode cX0_connected 0 = .ok (.aload_n 0, 1) := by decide +kernel
theorem dX0_connected_1 : decode cX0_connected 1 = .ok (.aload_n 0, 1) := by decide +kernel
theorem dX0_connected_2 : decode cX0_connected 2 = .ok (.getfield 29, 3) := by decide +kernel
theorem dX0_connected_5 : decode cX0_connected 5 = .ok (.invokevirtual 44, 3) := by decide +kernel
theorem dX0_connected_8 : decode cX0_connected 8 = .ok (.istore_n 1, 1) := by decide +kernel
theorem dX0_connected_9 : decode cX0_connected 9 = .ok (.iload_n 1, 1) := by decide +kernel
theorem dX0_connected_10 : decode cX0_connected 10 = .ok (.iload_n 1, 1) := by decide +kernel
theorem dX0_connected_11 : decode cX0_connected 11 = .ok (.ineg, 1) := by decide +kernel
theorem dX0_connected_12 : decode cX0_connected 12 = .ok (.iand, 1) := by decide +kernel
theorem dX0_connected_13 : decode cX0_connected 13 = .ok (.istore_n 2, 1) := by decide +kernel
theorem dX0_connected_14 : decode cX0_connected 14 = .ok (.iload_n 1, 1) := by decide +kernel
theorem dX0_connected_15 : decode cX0_connected 15 = .ok (.aload_n 0, 1) := by decide +kernel
theorem dX0_connected_16 : decode cX0_connected 16 = .ok (.iload_n 2, 1) := by decide +kernel
theorem dX0_connected_17 : decode cX0_connected 17 = .ok (.aload_n 0, 1) := by decide +kernel
theorem dX0_connected_18 : decode cX0_connected 18 = .ok (.getfield 29, 3) := by decide +kernel
theorem dX0_connected_21 : decode cX0_connected 21 = .ok (.invokevirtual 47, 3) := by decide +kernel
theorem dX0_connected_24 : decode cX0_connected 24 = .ok (.iconst (-1), 1) := by decide +kernel
theorem dX0_connected_25 : decode cX0_connected 25 = .ok (.ixor, 1) := by decide +kernel
theorem dX0_connected_26 : decode cX0_connected 26 = .ok (.iand, 1) := by decide +kernel
theorem dX0_connected_27 : decode cX0_connected 27 = .ok (.ifCond .ne 7, 3) := by decide +kernel
theorem dX0_connected_30 : decode cX0_connected 30 = .ok (.iconst 1, 1) := by decide +kernel
theorem dX0_connected_31 : decode cX0_connected 31 = .ok (.goto 4, 3) := by decide +kernel
theorem dX0_connected_34 : decode cX0_connected 34 = .ok (.iconst 0, 1) := by decide +kernel
theorem dX0_connected_35 : decode cX0_connected 35 = .ok (.ireturn, 1) := by decide +kernel
theorem dX0_touched_0 : decode cX0_touched 0 = .ok (.iconst 0, 1) := by decide +kernel
theorem dX0_touched_1 : decode cX0_touched 1 = .ok (.istore_n 2, 1) := by decide +kernel
theorem dX0_touched_2 : decode cX0_touched 2 = .ok (.iconst 0, 1) := by decide +kernel
theorem dX0_touched_3 : decode cX0_touched 3 = .ok (.istore_n 3, 1) := by decide +kernel
theorem dX0_touched_4 : decode cX0_touched 4 = .ok (.iload_n 3, 1) := by decide +kernel
theorem dX0_touched_5 : decode cX0_touched 5 = .ok (.bipush 10, 2) := by decide +kernel
theorem dX0_touched_7 : decode cX0_touched 7 = .ok (.if_icmp .ge 25, 3) := by decide +kernel
theorem dX0_touched_10 : decode cX0_touched 10 = .ok (.iload_n 1, 1) := by decide +kernel
theorem dX0_touched_11 : decode cX0_touched 11 = .ok (.iload_n 3, 1) := by decide +kernel
theorem dX0_touched_12 : decode cX0_touched 12 = .ok (.ishr, 1) := by decide +kernel
theorem dX0_touched_13 : decode cX0_touched 13 = .ok (.iconst 1, 1) := by decide +kernel
theorem dX0_touched_14 : decode cX0_touched 14 = .ok (.iand, 1) := by decide +kernel
theorem dX0_touched_15 : decode cX0_touched 15 = .ok (.ifCond .eq 11, 3) := by decide +kernel
theorem dX0_touched_18 : decode cX0_touched 18 = .ok (.iload_n 2, 1) := by decide +kernel
theorem dX0_touched_19 : decode cX0_touched 19 = .ok (.aload_n 0, 1) := by decide +kernel
theorem dX0_touched_20 : decode cX0_touched 20 = .ok (.iload_n 3, 1) := by decide +kernel
theorem dX0_touched_21 : decode cX0_touched 21 = .ok (.invokevirtual 40, 3) := by decide +kernel
theorem dX0_touched_24 : decode cX0_touched 24 = .ok (.ior, 1) := by decide +kernel
theorem dX0_touched_25 : decode cX0_touched 25 = .ok (.istore_n 2, 1) := by decide +kernel
theorem dX0_touched_26 : decode cX0_touched 26 = .ok (.iinc 3 1, 3) := by decide +kernel
theorem dX0_touched_29 : decode cX0_touched 29 = .ok (.goto (-25), 3) := by decide +kernel
theorem dX0_touched_32 : decode cX0_touched 32 = .ok (.iload_n 2, 1) := by decide +kernel
theorem dX0_touched_33 : decode cX0_touched 33 = .ok (.ireturn, 1) := by decide +kernel
theorem dX0_reached_0 : decode cX0_reached 0 = .ok (.iload_n 1, 1) := by decide +kernel
theorem dX0_reached_1 : decode cX0_reached 1 = .ok (.istore_n 3, 1) := by decide +kernel
theorem dX0_reached_2 : decode cX0_reached 2 = .ok (.iconst 0, 1) := by decide +kernel
theorem dX0_reached_3 : decode cX0_reached 3 = .ok (.istore 4, 2) := by decide +kernel
theorem dX0_reached_5 : decode cX0_reached 5 = .ok (.iload 4, 2) := by decide +kernel
theorem dX0_reached_7 : decode cX0_reached 7 = .ok (.bipush 6, 2) := by decide +kernel
theorem dX0_reached_9 : decode cX0_reached 9 = .ok (.if_icmp .ge 54, 3) := by decide +kernel
theorem dX0_reached_12 : decode cX0_reached 12 = .ok (.iconst 0, 1) := by decide +kernel
theorem dX0_reached_13 : decode cX0_reached 13 = .ok (.istore 5, 2) := by decide +kernel
theorem dX0_reached_15 : decode cX0_reached 15 = .ok (.iload 5, 2) := by decide +kernel
theorem dX0_reached_17 : decode cX0_reached 17 = .ok (.bipush 10, 2) := by decide +kernel
theorem dX0_reached_19 : decode cX0_reached 19 = .ok (.if_icmp .ge 38, 3) := by decide +kernel
theorem dX0_reached_22 : decode cX0_reached 22 = .ok (.iload_n 2, 1) := by decide +kernel
theorem dX0_reached_23 : decode cX0_reached 23 = .ok (.iload 5, 2) := by decide +kernel
theorem dX0_reached_25 : decode cX0_reached 25 = .ok (.ishr, 1) := by decide +kernel
theorem dX0_reached_26 : decode cX0_reached 26 = .ok (.iconst 1, 1) := by decide +kernel
theorem dX0_reached_27 : decode cX0_reached 27 = .ok (.iand, 1) := by decide +kernel
theorem dX0_reached_28 : decode cX0_reached 28 = .ok (.ifCond .eq 23, 3) := by decide +kernel
theorem dX0_reached_31 : decode cX0_reached 31 = .ok (.aload_n 0, 1) := by decide +kernel
theorem dX0_reached_32 : decode cX0_reached 32 = .ok (.iload 5, 2) := by decide +kernel
theorem dX0_reached_34 : decode cX0_reached 34 = .ok (.invokevirtual 40, 3) := by decide +kernel
theorem dX0_reached_37 : decode cX0_reached 37 = .ok (.iload_n 3, 1) := by decide +kernel
theorem dX0_reached_38 : decode cX0_reached 38 = .ok (.iand, 1) := by decide +kernel
theorem dX0_reached_39 : decode cX0_reached 39 = .ok (.ifCond .eq 12, 3) := by decide +kernel
theorem dX0_reached_42 : decode cX0_reached 42 = .ok (.iload_n 3, 1) := by decide +kernel
theorem dX0_reached_43 : decode cX0_reached 43 = .ok (.aload_n 0, 1) := by decide +kernel
theorem dX0_reached_44 : decode cX0_reached 44 = .ok (.iload 5, 2) := by decide +kernel
theorem dX0_reached_46 : decode cX0_reached 46 = .ok (.invokevirtual 40, 3) := by decide +kernel
theorem dX0_reached_49 : decode cX0_reached 49 = .ok (.ior, 1) := by decide +kernel
theorem dX0_reached_50 : decode cX0_reached 50 = .ok (.istore_n 3, 1) := by decide +kernel
theorem dX0_reached_51 : decode cX0_reached 51 = .ok (.iinc 5 1, 3) := by decide +kernel
theorem dX0_reached_54 : decode cX0_reached 54 = .ok (.goto (-39), 3) := by decide +kernel
theorem dX0_reached_57 : decode cX0_reached 57 = .ok (.iinc 4 1, 3) := by decide +kernel
theorem dX0_reached_60 : decode cX0_reached 60 = .ok (.goto (-55), 3) := by decide +kernel
theorem dX0_reached_63 : decode cX0_reached 63 = .ok (.iload_n 3, 1) := by decide +kernel
theorem dX0_reached_64 : decode cX0_reached 64 = .ok (.ireturn, 1) := by decide +kernel
theorem dX0_extra_0 : decode cX0_extra 0 = .ok (.aload_n 0, 1) := by decide +kernel
theorem dX0_extra_1 : decode cX0_extra 1 = .ok (.invokevirtual 64, 3) := by decide +kernel
theorem dX0_extra_4 : decode cX0_extra 4 = .ok (.istore_n 1, 1) := by decide +kernel
theorem dX0_extra_5 : decode cX0_extra 5 = .ok (.aload_n 0, 1) := by decide +kernel
theorem dX0_extra_6 : decode cX0_extra 6 = .ok (.iload_n 1, 1) := by decide +kernel
theorem dX0_extra_7 : decode cX0_extra 7 = .ok (.aload_n 0, 1) := by decide +kernel
theorem dX0_extra_8 : decode cX0_extra 8 = .ok (.getfield 29, 3) := by decide +kernel
theorem dX0_extra_11 : decode cX0_extra 11 = .ok (.invokevirtual 68, 3) := by decide +kernel
theorem dX0_extra_14 : decode cX0_extra 14 = .ok (.istore_n 2, 1) := by decide +kernel
theorem dX0_extra_15 : decode cX0_extra 15 = .ok (.iload_n 2, 1) := by decide +kernel
theorem dX0_extra_16 : decode cX0_extra 16 = .ok (.ldc 51, 2) := by decide +kernel
theorem dX0_extra_18 : decode cX0_extra 18 = .ok (.if_icmp .ge 7, 3) := by decide +kernel
theorem dX0_extra_21 : decode cX0_extra 21 = .ok (.iload_n 2, 1) := by decide +kernel
theorem dX0_extra_22 : decode cX0_extra 22 = .ok (.goto 4, 3) := by decide +kernel
theorem dX0_extra_25 : decode cX0_extra 25 = .ok (.iconst (-1), 1) := by decide +kernel
theorem dX0_extra_26 : decode cX0_extra 26 = .ok (.ireturn, 1) := by decide +kernel
theorem dX0_join_0 : decode cX0_join 0 = .ok (.aload_n 0, 1) := by decide +kernel
theorem dX0_join_1 : decode cX0_join 1 = .ok (.iload_n 2, 1) := by decide +kernel
theorem dX0_join_2 : decode cX0_join 2 = .ok (.invokevirtual 56, 3) := by decide +kernel
theorem dX0_join_5 : decode cX0_join 5 = .ok (.aload_n 0, 1) := by decide +kernel
theorem dX0_join_6 : decode cX0_join 6 = .ok (.getfield 23, 3) := by decide +kernel
theorem dX0_join_9 : decode cX0_join 9 = .ok (.iconst 0, 1) := by decide +kernel
theorem dX0_join_10 : decode cX0_join 10 = .ok (.iconst 0, 1) := by decide +kernel
theorem dX0_join_11 : decode cX0_join 11 = .ok (.iastore, 1) := by decide +kernel
theorem dX0_join_12 : decode cX0_join 12 = .ok (.iconst 1, 1) := by decide +kernel
theorem dX0_join_13 : decode cX0_join 13 = .ok (.istore_n 3, 1) := by decide +kernel
theorem dX0_join_14 : decode cX0_join 14 = .ok (.iload_n 3, 1) := by decide +kernel
theorem dX0_join_15 : decode cX0_join 15 = .ok (.bipush 64, 2) := by decide +kernel
theorem dX0_join_17 : decode cX0_join 17 = .ok (.if_icmp .ge 36, 3) := by decide +kernel
theorem dX0_join_20 : decode cX0_join 20 = .ok (.aload_n 0, 1) := by decide +kernel
theorem dX0_join_21 : decode cX0_join 21 = .ok (.getfield 23, 3) := by decide +kernel
theorem dX0_join_24 : decode cX0_join 24 = .ok (.iload_n 3, 1) := by decide +kernel
theorem dX0_join_25 : decode cX0_join 25 = .ok (.ldc 60, 2) := by decide +kernel
theorem dX0_join_27 : decode cX0_join 27 = .ok (.iastore, 1) := by decide +kernel
theorem dX0_join_28 : decode cX0_join 28 = .ok (.iload_n 3, 1) := by decide +kernel
end
section
set_option maxRecDepth 100000
theorem dX0_join_29 : decode cX0_join 29 = .ok (.iload_n 1, 1) := by decide +kernel
theorem dX0_join_30 : decode cX0_join 30 = .ok (.iconst (-1), 1) := by decide +kernel
theorem dX0_join_31 : decode cX0_join 31 = .ok (.ixor, 1) := by decide +kernel
theorem dX0_join_32 : decode cX0_join 32 = .ok (.iand, 1) := by decide +kernel
theorem dX0_join_33 : decode cX0_join 33 = .ok (.ifCond .ne 14, 3) := by decide +kernel
theorem dX0_join_36 : decode cX0_join 36 = .ok (.aload_n 0, 1) := by decide +kernel
theorem dX0_join_37 : decode cX0_join 37 = .ok (.getfield 23, 3) := by decide +kernel
theorem dX0_join_40 : decode cX0_join 40 = .ok (.iload_n 3, 1) := by decide +kernel
theorem dX0_join_41 : decode cX0_join 41 = .ok (.aload_n 0, 1) := by decide +kernel
theorem dX0_join_42 : decode cX0_join 42 = .ok (.iload_n 3, 1) := by decide +kernel
theorem dX0_join_43 : decode cX0_join 43 = .ok (.invokevirtual 61, 3) := by decide +kernel
theorem dX0_join_46 : decode cX0_join 46 = .ok (.iastore, 1) := by decide +kernel
theorem dX0_join_47 : decode cX0_join 47 = .ok (.iinc 3 1, 3) := by decide +kernel
theorem dX0_join_50 : decode cX0_join 50 = .ok (.goto (-36), 3) := by decide +kernel
theorem dX0_join_53 : decode cX0_join 53 = .ok (.aload_n 0, 1) := by decide +kernel
theorem dX0_join_54 : decode cX0_join 54 = .ok (.getfield 23, 3) := by decide +kernel
theorem dX0_join_57 : decode cX0_join 57 = .ok (.iload_n 1, 1) := by decide +kernel
theorem dX0_join_58 : decode cX0_join 58 = .ok (.iaload, 1) := by decide +kernel
theorem dX0_join_59 : decode cX0_join 59 = .ok (.ireturn, 1) := by decide +kernel
theorem dX0_measure_0 : decode cX0_measure 0 = .ok (.iconst 0, 1) := by decide +kernel
theorem dX0_measure_1 : decode cX0_measure 1 = .ok (.istore_n 2, 1) := by decide +kernel
theorem dX0_measure_2 : decode cX0_measure 2 = .ok (.iload_n 2, 1) := by decide +kernel
theorem dX0_measure_3 : decode cX0_measure 3 = .ok (.bipush 36, 2) := by decide +kernel
theorem dX0_measure_5 : decode cX0_measure 5 = .ok (.if_icmp .ge 32, 3) := by decide +kernel
theorem dX0_measure_8 : decode cX0_measure 8 = .ok (.aload_n 0, 1) := by decide +kernel
theorem dX0_measure_9 : decode cX0_measure 9 = .ok (.getfield 19, 3) := by decide +kernel
theorem dX0_measure_12 : decode cX0_measure 12 = .ok (.iload_n 2, 1) := by decide +kernel
theorem dX0_measure_13 : decode cX0_measure 13 = .ok (.iload_n 2, 1) := by decide +kernel
theorem dX0_measure_14 : decode cX0_measure 14 = .ok (.bipush 6, 2) := by decide +kernel
theorem dX0_measure_16 : decode cX0_measure 16 = .ok (.idiv, 1) := by decide +kernel
theorem dX0_measure_17 : decode cX0_measure 17 = .ok (.iload_n 2, 1) := by decide +kernel
theorem dX0_measure_18 : decode cX0_measure 18 = .ok (.bipush 6, 2) := by decide +kernel
theorem dX0_measure_20 : decode cX0_measure 20 = .ok (.irem, 1) := by decide +kernel
theorem dX0_measure_21 : decode cX0_measure 21 = .ok (.if_icmp .ne 7, 3) := by decide +kernel
theorem dX0_measure_24 : decode cX0_measure 24 = .ok (.iconst 0, 1) := by decide +kernel
theorem dX0_measure_25 : decode cX0_measure 25 = .ok (.goto 5, 3) := by decide +kernel
theorem dX0_measure_28 : decode cX0_measure 28 = .ok (.ldc 51, 2) := by decide +kernel
theorem dX0_measure_30 : decode cX0_measure 30 = .ok (.iastore, 1) := by decide +kernel
theorem dX0_measure_31 : decode cX0_measure 31 = .ok (.iinc 2 1, 3) := by decide +kernel
theorem dX0_measure_34 : decode cX0_measure 34 = .ok (.goto (-32), 3) := by decide +kernel
theorem dX0_measure_37 : decode cX0_measure 37 = .ok (.iconst 0, 1) := by decide +kernel
theorem dX0_measure_38 : decode cX0_measure 38 = .ok (.istore_n 2, 1) := by decide +kernel
theorem dX0_measure_39 : decode cX0_measure 39 = .ok (.iload_n 2, 1) := by decide +kernel
theorem dX0_measure_40 : decode cX0_measure 40 = .ok (.bipush 10, 2) := by decide +kernel
theorem dX0_measure_42 : decode cX0_measure 42 = .ok (.if_icmp .ge 61, 3) := by decide +kernel
theorem dX0_measure_45 : decode cX0_measure 45 = .ok (.iload_n 1, 1) := by decide +kernel
theorem dX0_measure_46 : decode cX0_measure 46 = .ok (.iload_n 2, 1) := by decide +kernel
theorem dX0_measure_47 : decode cX0_measure 47 = .ok (.ishr, 1) := by decide +kernel
theorem dX0_measure_48 : decode cX0_measure 48 = .ok (.iconst 1, 1) := by decide +kernel
theorem dX0_measure_49 : decode cX0_measure 49 = .ok (.iand, 1) := by decide +kernel
theorem dX0_measure_50 : decode cX0_measure 50 = .ok (.ifCond .eq 47, 3) := by decide +kernel
theorem dX0_measure_53 : decode cX0_measure 53 = .ok (.aload_n 0, 1) := by decide +kernel
theorem dX0_measure_54 : decode cX0_measure 54 = .ok (.aload_n 0, 1) := by decide +kernel
theorem dX0_measure_55 : decode cX0_measure 55 = .ok (.getfield 7, 3) := by decide +kernel
theorem dX0_measure_58 : decode cX0_measure 58 = .ok (.iload_n 2, 1) := by decide +kernel
theorem dX0_measure_59 : decode cX0_measure 59 = .ok (.baload, 1) := by decide +kernel
theorem dX0_measure_60 : decode cX0_measure 60 = .ok (.aload_n 0, 1) := by decide +kernel
theorem dX0_measure_61 : decode cX0_measure 61 = .ok (.getfield 13, 3) := by decide +kernel
theorem dX0_measure_64 : decode cX0_measure 64 = .ok (.iload_n 2, 1) := by decide +kernel
theorem dX0_measure_65 : decode cX0_measure 65 = .ok (.baload, 1) := by decide +kernel
theorem dX0_measure_66 : decode cX0_measure 66 = .ok (.aload_n 0, 1) := by decide +kernel
theorem dX0_measure_67 : decode cX0_measure 67 = .ok (.getfield 16, 3) := by decide +kernel
theorem dX0_measure_70 : decode cX0_measure 70 = .ok (.iload_n 2, 1) := by decide +kernel
theorem dX0_measure_71 : decode cX0_measure 71 = .ok (.baload, 1) := by decide +kernel
theorem dX0_measure_72 : decode cX0_measure 72 = .ok (.invokevirtual 52, 3) := by decide +kernel
theorem dX0_measure_75 : decode cX0_measure 75 = .ok (.aload_n 0, 1) := by decide +kernel
theorem dX0_measure_76 : decode cX0_measure 76 = .ok (.aload_n 0, 1) := by decide +kernel
theorem dX0_measure_77 : decode cX0_measure 77 = .ok (.getfield 13, 3) := by decide +kernel
theorem dX0_measure_80 : decode cX0_measure 80 = .ok (.iload_n 2, 1) := by decide +kernel
theorem dX0_measure_81 : decode cX0_measure 81 = .ok (.baload, 1) := by decide +kernel
theorem dX0_measure_82 : decode cX0_measure 82 = .ok (.aload_n 0, 1) := by decide +kernel
theorem dX0_measure_83 : decode cX0_measure 83 = .ok (.getfield 7, 3) := by decide +kernel
theorem dX0_measure_86 : decode cX0_measure 86 = .ok (.iload_n 2, 1) := by decide +kernel
theorem dX0_measure_87 : decode cX0_measure 87 = .ok (.baload, 1) := by decide +kernel
theorem dX0_measure_88 : decode cX0_measure 88 = .ok (.aload_n 0, 1) := by decide +kernel
theorem dX0_measure_89 : decode cX0_measure 89 = .ok (.getfield 16, 3) := by decide +kernel
theorem dX0_measure_92 : decode cX0_measure 92 = .ok (.iload_n 2, 1) := by decide +kernel
theorem dX0_measure_93 : decode cX0_measure 93 = .ok (.baload, 1) := by decide +kernel
theorem dX0_measure_94 : decode cX0_measure 94 = .ok (.invokevirtual 52, 3) := by decide +kernel
theorem dX0_measure_97 : decode cX0_measure 97 = .ok (.iinc 2 1, 3) := by decide +kernel
theorem dX0_measure_100 : decode cX0_measure 100 = .ok (.goto (-61), 3) := by decide +kernel
theorem dX0_measure_103 : decode cX0_measure 103 = .ok (.iconst 0, 1) := by decide +kernel
theorem dX0_measure_104 : decode cX0_measure 104 = .ok (.istore_n 2, 1) := by decide +kernel
theorem dX0_measure_105 : decode cX0_measure 105 = .ok (.iload_n 2, 1) := by decide +kernel
theorem dX0_measure_106 : decode cX0_measure 106 = .ok (.bipush 6, 2) := by decide +kernel
theorem dX0_measure_108 : decode cX0_measure 108 = .ok (.if_icmp .ge 73, 3) := by decide +kernel
theorem dX0_measure_111 : decode cX0_measure 111 = .ok (.iconst 0, 1) := by decide +kernel
theorem dX0_measure_112 : decode cX0_measure 112 = .ok (.istore_n 3, 1) := by decide +kernel
theorem dX0_measure_113 : decode cX0_measure 113 = .ok (.iload_n 3, 1) := by decide +kernel
theorem dX0_measure_114 : decode cX0_measure 114 = .ok (.bipush 36, 2) := by decide +kernel
theorem dX0_measure_116 : decode cX0_measure 116 = .ok (.if_icmp .ge 59, 3) := by decide +kernel
theorem dX0_measure_119 : decode cX0_measure 119 = .ok (.aload_n 0, 1) := by decide +kernel
theorem dX0_measure_120 : decode cX0_measure 120 = .ok (.getfield 19, 3) := by decide +kernel
theorem dX0_measure_123 : decode cX0_measure 123 = .ok (.iload_n 3, 1) := by decide +kernel
theorem dX0_measure_124 : decode cX0_measure 124 = .ok (.bipush 6, 2) := by decide +kernel
theorem dX0_measure_126 : decode cX0_measure 126 = .ok (.idiv, 1) := by decide +kernel
theorem dX0_measure_127 : decode cX0_measure 127 = .ok (.bipush 6, 2) := by decide +kernel
theorem dX0_measure_129 : decode cX0_measure 129 = .ok (.imul, 1) := by decide +kernel
theorem dX0_measure_130 : decode cX0_measure 130 = .ok (.iload_n 2, 1) := by decide +kernel
theorem dX0_measure_131 : decode cX0_measure 131 = .ok (.iadd, 1) := by decide +kernel
theorem dX0_measure_132 : decode cX0_measure 132 = .ok (.iaload, 1) := by decide +kernel
theorem dX0_measure_133 : decode cX0_measure 133 = .ok (.aload_n 0, 1) := by decide +kernel
theorem dX0_measure_134 : decode cX0_measure 134 = .ok (.getfield 19, 3) := by decide +kernel
theorem dX0_measure_137 : decode cX0_measure 137 = .ok (.iload_n 2, 1) := by decide +kernel
theorem dX0_measure_138 : decode cX0_measure 138 = .ok (.bipush 6, 2) := by decide +kernel
theorem dX0_measure_140 : decode cX0_measure 140 = .ok (.imul, 1) := by decide +kernel
theorem dX0_measure_141 : decode cX0_measure 141 = .ok (.iload_n 3, 1) := by decide +kernel
theorem dX0_measure_142 : decode cX0_measure 142 = .ok (.bipush 6, 2) := by decide +kernel
theorem dX0_measure_144 : decode cX0_measure 144 = .ok (.irem, 1) := by decide +kernel
theorem dX0_measure_145 : decode cX0_measure 145 = .ok (.iadd, 1) := by decide +kernel
theorem dX0_measure_146 : decode cX0_measure 146 = .ok (.iaload, 1) := by decide +kernel
theorem dX0_measure_147 : decode cX0_measure 147 = .ok (.iadd, 1) := by decide +kernel
theorem dX0_measure_148 : decode cX0_measure 148 = .ok (.istore 4, 2) := by decide +kernel
theorem dX0_measure_150 : decode cX0_measure 150 = .ok (.iload 4, 2) := by decide +kernel
theorem dX0_measure_152 : decode cX0_measure 152 = .ok (.aload_n 0, 1) := by decide +kernel
theorem dX0_measure_153 : decode cX0_measure 153 = .ok (.getfield 19, 3) := by decide +kernel
theorem dX0_measure_156 : decode cX0_measure 156 = .ok (.iload_n 3, 1) := by decide +kernel
theorem dX0_measure_157 : decode cX0_measure 157 = .ok (.iaload, 1) := by decide +kernel
theorem dX0_measure_158 : decode cX0_measure 158 = .ok (.if_icmp .ge 11, 3) := by decide +kernel
theorem dX0_measure_161 : decode cX0_measure 161 = .ok (.aload_n 0, 1) := by decide +kernel
theorem dX0_measure_162 : decode cX0_measure 162 = .ok (.getfield 19, 3) := by decide +kernel
theorem dX0_measure_165 : decode cX0_measure 165 = .ok (.iload_n 3, 1) := by decide +kernel
theorem dX0_measure_166 : decode cX0_measure 166 = .ok (.iload 4, 2) := by decide +kernel
theorem dX0_measure_168 : decode cX0_measure 168 = .ok (.iastore, 1) := by decide +kernel
theorem dX0_measure_169 : decode cX0_measure 169 = .ok (.iinc 3 1, 3) := by decide +kernel
theorem dX0_measure_172 : decode cX0_measure 172 = .ok (.goto (-59), 3) := by decide +kernel
theorem dX0_measure_175 : decode cX0_measure 175 = .ok (.iinc 2 1, 3) := by decide +kernel
theorem dX0_measure_178 : decode cX0_measure 178 = .ok (.goto (-73), 3) := by decide +kernel
theorem dX0_measure_181 : decode cX0_measure 181 = .ok (.return_, 1) := by decide +kernel
theorem dX0_shorten_0 : decode cX0_shorten 0 = .ok (.iload_n 1, 1) := by decide +kernel
theorem dX0_shorten_1 : decode cX0_shorten 1 = .ok (.bipush 6, 2) := by decide +kernel
theorem dX0_shorten_3 : decode cX0_shorten 3 = .ok (.imul, 1) := by decide +kernel
theorem dX0_shorten_4 : decode cX0_shorten 4 = .ok (.iload_n 2, 1) := by decide +kernel
theorem dX0_shorten_5 : decode cX0_shorten 5 = .ok (.iadd, 1) := by decide +kernel
theorem dX0_shorten_6 : decode cX0_shorten 6 = .ok (.istore 4, 2) := by decide +kernel
theorem dX0_shorten_8 : decode cX0_shorten 8 = .ok (.iload_n 3, 1) := by decide +kernel
theorem dX0_shorten_9 : decode cX0_shorten 9 = .ok (.aload_n 0, 1) := by decide +kernel
theorem dX0_shorten_10 : decode cX0_shorten 10 = .ok (.getfield 19, 3) := by decide +kernel
theorem dX0_shorten_13 : decode cX0_shorten 13 = .ok (.iload 4, 2) := by decide +kernel
theorem dX0_shorten_15 : decode cX0_shorten 15 = .ok (.iaload, 1) := by decide +kernel
theorem dX0_shorten_16 : decode cX0_shorten 16 = .ok (.if_icmp .ge 11, 3) := by decide +kernel
theorem dX0_shorten_19 : decode cX0_shorten 19 = .ok (.aload_n 0, 1) := by decide +kernel
theorem dX0_shorten_20 : decode cX0_shorten 20 = .ok (.getfield 19, 3) := by decide +kernel
theorem dX0_shorten_23 : decode cX0_shorten 23 = .ok (.iload 4, 2) := by decide +kernel
theorem dX0_shorten_25 : decode cX0_shorten 25 = .ok (.iload_n 3, 1) := by decide +kernel
theorem dX0_shorten_26 : decode cX0_shorten 26 = .ok (.iastore, 1) := by decide +kernel
theorem dX0_shorten_27 : decode cX0_shorten 27 = .ok (.return_, 1) := by decide +kernel
theorem dX0_pairUp_0 : decode cX0_pairUp 0 = .ok (.iconst 0, 1) := by decide +kernel
theorem dX0_pairUp_1 : decode cX0_pairUp 1 = .ok (.istore_n 2, 1) := by decide +kernel
theorem dX0_pairUp_2 : decode cX0_pairUp 2 = .ok (.iload_n 2, 1) := by decide +kernel
theorem dX0_pairUp_3 : decode cX0_pairUp 3 = .ok (.bipush 6, 2) := by decide +kernel
theorem dX0_pairUp_5 : decode cX0_pairUp 5 = .ok (.if_icmp .ge 17, 3) := by decide +kernel
theorem dX0_pairUp_8 : decode cX0_pairUp 8 = .ok (.iload_n 1, 1) := by decide +kernel
theorem dX0_pairUp_9 : decode cX0_pairUp 9 = .ok (.iload_n 2, 1) := by decide +kernel
theorem dX0_pairUp_10 : decode cX0_pairUp 10 = .ok (.ishr, 1) := by decide +kernel
theorem dX0_pairUp_11 : decode cX0_pairUp 11 = .ok (.iconst 1, 1) := by decide +kernel
theorem dX0_pairUp_12 : decode cX0_pairUp 12 = .ok (.iand, 1) := by decide +kernel
theorem dX0_pairUp_13 : decode cX0_pairUp 13 = .ok (.ifCond .ne 9, 3) := by decide +kernel
theorem dX0_pairUp_16 : decode cX0_pairUp 16 = .ok (.iinc 2 1, 3) := by decide +kernel
theorem dX0_pairUp_19 : decode cX0_pairUp 19 = .ok (.goto (-17), 3) := by decide +kernel
theorem dX0_pairUp_22 : decode cX0_pairUp 22 = .ok (.ldc 60, 2) := by decide +kernel
theorem dX0_pairUp_24 : decode cX0_pairUp 24 = .ok (.istore_n 3, 1) := by decide +kernel
theorem dX0_pairUp_25 : decode cX0_pairUp 25 = .ok (.iload_n 2, 1) := by decide +kernel
theorem dX0_pairUp_26 : decode cX0_pairUp 26 = .ok (.iconst 1, 1) := by decide +kernel
theorem dX0_pairUp_27 : decode cX0_pairUp 27 = .ok (.iadd, 1) := by decide +kernel
theorem dX0_pairUp_28 : decode cX0_pairUp 28 = .ok (.istore 4, 2) := by decide +kernel
theorem dX0_pairUp_30 : decode cX0_pairUp 30 = .ok (.iload 4, 2) := by decide +kernel
theorem dX0_pairUp_32 : decode cX0_pairUp 32 = .ok (.bipush 6, 2) := by decide +kernel
theorem dX0_pairUp_34 : decode cX0_pairUp 34 = .ok (.if_icmp .ge 65, 3) := by decide +kernel
theorem dX0_pairUp_37 : decode cX0_pairUp 37 = .ok (.iload_n 1, 1) := by decide +kernel
theorem dX0_pairUp_38 : decode cX0_pairUp 38 = .ok (.iload 4, 2) := by decide +kernel
theorem dX0_pairUp_40 : decode cX0_pairUp 40 = .ok (.ishr, 1) := by decide +kernel
theorem dX0_pairUp_41 : decode cX0_pairUp 41 = .ok (.iconst 1, 1) := by decide +kernel
theorem dX0_pairUp_42 : decode cX0_pairUp 42 = .ok (.iand, 1) := by decide +kernel
theorem dX0_pairUp_43 : decode cX0_pairUp 43 = .ok (.ifCond .eq 50, 3) := by decide +kernel
theorem dX0_pairUp_46 : decode cX0_pairUp 46 = .ok (.iload_n 1, 1) := by decide +kernel
theorem dX0_pairUp_47 : decode cX0_pairUp 47 = .ok (.iconst 1, 1) := by decide +kernel
theorem dX0_pairUp_48 : decode cX0_pairUp 48 = .ok (.iload_n 2, 1) := by decide +kernel
theorem dX0_pairUp_49 : decode cX0_pairUp 49 = .ok (.ishl, 1) := by decide +kernel
theorem dX0_pairUp_50 : decode cX0_pairUp 50 = .ok (.iconst (-1), 1) := by decide +kernel
theorem dX0_pairUp_51 : decode cX0_pairUp 51 = .ok (.ixor, 1) := by decide +kernel
theorem dX0_pairUp_52 : decode cX0_pairUp 52 = .ok (.iand, 1) := by decide +kernel
theorem dX0_pairUp_53 : decode cX0_pairUp 53 = .ok (.iconst 1, 1) := by decide +kernel
theorem dX0_pairUp_54 : decode cX0_pairUp 54 = .ok (.iload 4, 2) := by decide +kernel
theorem dX0_pairUp_56 : decode cX0_pairUp 56 = .ok (.ishl, 1) := by decide +kernel
theorem dX0_pairUp_57 : decode cX0_pairUp 57 = .ok (.iconst (-1), 1) := by decide +kernel
theorem dX0_pairUp_58 : decode cX0_pairUp 58 = .ok (.ixor, 1) := by decide +kernel
theorem dX0_pairUp_59 : decode cX0_pairUp 59 = .ok (.iand, 1) := by decide +kernel
theorem dX0_pairUp_60 : decode cX0_pairUp 60 = .ok (.istore 5, 2) := by decide +kernel
theorem dX0_pairUp_62 : decode cX0_pairUp 62 = .ok (.aload_n 0, 1) := by decide +kernel
theorem dX0_pairUp_63 : decode cX0_pairUp 63 = .ok (.getfield 19, 3) := by decide +kernel
theorem dX0_pairUp_66 : decode cX0_pairUp 66 = .ok (.iload_n 2, 1) := by decide +kernel
theorem dX0_pairUp_67 : decode cX0_pairUp 67 = .ok (.bipush 6, 2) := by decide +kernel
theorem dX0_pairUp_69 : decode cX0_pairUp 69 = .ok (.imul, 1) := by decide +kernel
theorem dX0_pairUp_70 : decode cX0_pairUp 70 = .ok (.iload 4, 2) := by decide +kernel
theorem dX0_pairUp_72 : decode cX0_pairUp 72 = .ok (.iadd, 1) := by decide +kernel
theorem dX0_pairUp_73 : decode cX0_pairUp 73 = .ok (.iaload, 1) := by decide +kernel
theorem dX0_pairUp_74 : decode cX0_pairUp 74 = .ok (.aload_n 0, 1) := by decide +kernel
theorem dX0_pairUp_75 : decode cX0_pairUp 75 = .ok (.getfield 23, 3) := by decide +kernel
theorem dX0_pairUp_78 : decode cX0_pairUp 78 = .ok (.iload 5, 2) := by decide +kernel
theorem dX0_pairUp_80 : decode cX0_pairUp 80 = .ok (.iaload, 1) := by decide +kernel
theorem dX0_pairUp_81 : decode cX0_pairUp 81 = .ok (.iadd, 1) := by decide +kernel
theorem dX0_pairUp_82 : decode cX0_pairUp 82 = .ok (.istore 6, 2) := by decide +kernel
theorem dX0_pairUp_84 : decode cX0_pairUp 84 = .ok (.iload 6, 2) := by decide +kernel
theorem dX0_pairUp_86 : decode cX0_pairUp 86 = .ok (.iload_n 3, 1) := by decide +kernel
theorem dX0_pairUp_87 : decode cX0_pairUp 87 = .ok (.if_icmp .ge 6, 3) := by decide +kernel
theorem dX0_pairUp_90 : decode cX0_pairUp 90 = .ok (.iload 6, 2) := by decide +kernel
theorem dX0_pairUp_92 : decode cX0_pairUp 92 = .ok (.istore_n 3, 1) := by decide +kernel
theorem dX0_pairUp_93 : decode cX0_pairUp 93 = .ok (.iinc 4 1, 3) := by decide +kernel
theorem dX0_pairUp_96 : decode cX0_pairUp 96 = .ok (.goto (-66), 3) := by decide +kernel
theorem dX0_pairUp_99 : decode cX0_pairUp 99 = .ok (.iload_n 3, 1) := by decide +kernel
theorem dX0_pairUp_100 : decode cX0_pairUp 100 = .ok (.ireturn, 1) := by decide +kernel
theorem dX0_bestSet_0 : decode cX0_bestSet 0 = .ok (.aload_n 0, 1) := by decide +kernel
theorem dX0_bestSet_1 : decode cX0_bestSet 1 = .ok (.invokevirtual 64, 3) := by decide +kernel
theorem dX0_bestSet_4 : decode cX0_bestSet 4 = .ok (.istore_n 1, 1) := by decide +kernel
theorem dX0_bestSet_5 : decode cX0_bestSet 5 = .ok (.aload_n 0, 1) := by decide +kernel
theorem dX0_bestSet_6 : decode cX0_bestSet 6 = .ok (.iload_n 1, 1) := by decide +kernel
theorem dX0_bestSet_7 : decode cX0_bestSet 7 = .ok (.aload_n 0, 1) := by decide +kernel
theorem dX0_bestSet_8 : decode cX0_bestSet 8 = .ok (.getfield 29, 3) := by decide +kernel
theorem dX0_bestSet_11 : decode cX0_bestSet 11 = .ok (.invokevirtual 68, 3) := by decide +kernel
theorem dX0_bestSet_14 : decode cX0_bestSet 14 = .ok (.istore_n 2, 1) := by decide +kernel
theorem dX0_bestSet_15 : decode cX0_bestSet 15 = .ok (.iload_n 2, 1) := by decide +kernel
theorem dX0_bestSet_16 : decode cX0_bestSet 16 = .ok (.ldc 51, 2) := by decide +kernel
theorem dX0_bestSet_18 : decode cX0_bestSet 18 = .ok (.if_icmp .lt 5, 3) := by decide +kernel
theorem dX0_bestSet_21 : decode cX0_bestSet 21 = .ok (.iconst (-1), 1) := by decide +kernel
theorem dX0_bestSet_22 : decode cX0_bestSet 22 = .ok (.ireturn, 1) := by decide +kernel
theorem dX0_bestSet_23 : decode cX0_bestSet 23 = .ok (.aload_n 0, 1) := by decide +kernel
theorem dX0_bestSet_24 : decode cX0_bestSet 24 = .ok (.getfield 29, 3) := by decide +kernel
theorem dX0_bestSet_27 : decode cX0_bestSet 27 = .ok (.istore_n 3, 1) := by decide +kernel
theorem dX0_bestSet_28 : decode cX0_bestSet 28 = .ok (.iconst 0, 1) := by decide +kernel
theorem dX0_bestSet_29 : decode cX0_bestSet 29 = .ok (.istore 4, 2) := by decide +kernel
theorem dX0_bestSet_31 : decode cX0_bestSet 31 = .ok (.iconst 0, 1) := by decide +kernel
theorem dX0_bestSet_32 : decode cX0_bestSet 32 = .ok (.istore 5, 2) := by decide +kernel
theorem dX0_bestSet_34 : decode cX0_bestSet 34 = .ok (.iload 5, 2) := by decide +kernel
theorem dX0_bestSet_36 : decode cX0_bestSet 36 = .ok (.bipush 10, 2) := by decide +kernel
theorem dX0_bestSet_38 : decode cX0_bestSet 38 = .ok (.if_icmp .ge 69, 3) := by decide +kernel
theorem dX0_bestSet_41 : decode cX0_bestSet 41 = .ok (.aload_n 0, 1) := by decide +kernel
theorem dX0_bestSet_42 : decode cX0_bestSet 42 = .ok (.iload 5, 2) := by decide +kernel
theorem dX0_bestSet_44 : decode cX0_bestSet 44 = .ok (.invokevirtual 37, 3) := by decide +kernel
theorem dX0_bestSet_47 : decode cX0_bestSet 47 = .ok (.ifCond .eq 54, 3) := by decide +kernel
theorem dX0_bestSet_50 : decode cX0_bestSet 50 = .ok (.iload_n 3, 1) := by decide +kernel
theorem dX0_bestSet_51 : decode cX0_bestSet 51 = .ok (.iconst 1, 1) := by decide +kernel
theorem dX0_bestSet_52 : decode cX0_bestSet 52 = .ok (.iload 5, 2) := by decide +kernel
theorem dX0_bestSet_54 : decode cX0_bestSet 54 = .ok (.ishl, 1) := by decide +kernel
theorem dX0_bestSet_55 : decode cX0_bestSet 55 = .ok (.iconst (-1), 1) := by decide +kernel
theorem dX0_bestSet_56 : decode cX0_bestSet 56 = .ok (.ixor, 1) := by decide +kernel
theorem dX0_bestSet_57 : decode cX0_bestSet 57 = .ok (.iand, 1) := by decide +kernel
theorem dX0_bestSet_58 : decode cX0_bestSet 58 = .ok (.istore_n 3, 1) := by decide +kernel
theorem dX0_bestSet_59 : decode cX0_bestSet 59 = .ok (.aload_n 0, 1) := by decide +kernel
theorem dX0_bestSet_60 : decode cX0_bestSet 60 = .ok (.iload_n 1, 1) := by decide +kernel
theorem dX0_bestSet_61 : decode cX0_bestSet 61 = .ok (.iload_n 3, 1) := by decide +kernel
theorem dX0_bestSet_62 : decode cX0_bestSet 62 = .ok (.invokevirtual 68, 3) := by decide +kernel
theorem dX0_bestSet_65 : decode cX0_bestSet 65 = .ok (.istore 6, 2) := by decide +kernel
theorem dX0_bestSet_67 : decode cX0_bestSet 67 = .ok (.iload 6, 2) := by decide +kernel
theorem dX0_bestSet_69 : decode cX0_bestSet 69 = .ok (.iload_n 2, 1) := by decide +kernel
theorem dX0_bestSet_70 : decode cX0_bestSet 70 = .ok (.if_icmp .eq 31, 3) := by decide +kernel
theorem dX0_bestSet_73 : decode cX0_bestSet 73 = .ok (.iload 4, 2) := by decide +kernel
theorem dX0_bestSet_75 : decode cX0_bestSet 75 = .ok (.iconst 1, 1) := by decide +kernel
theorem dX0_bestSet_76 : decode cX0_bestSet 76 = .ok (.iload 5, 2) := by decide +kernel
theorem dX0_bestSet_78 : decode cX0_bestSet 78 = .ok (.ishl, 1) := by decide +kernel
theorem dX0_bestSet_79 : decode cX0_bestSet 79 = .ok (.ior, 1) := by decide +kernel
theorem dX0_bestSet_80 : decode cX0_bestSet 80 = .ok (.istore 4, 2) := by decide +kernel
theorem dX0_bestSet_82 : decode cX0_bestSet 82 = .ok (.iload_n 1, 1) := by decide +kernel
theorem dX0_bestSet_83 : decode cX0_bestSet 83 = .ok (.aload_n 0, 1) := by decide +kernel
theorem dX0_bestSet_84 : decode cX0_bestSet 84 = .ok (.iload 5, 2) := by decide +kernel
theorem dX0_bestSet_86 : decode cX0_bestSet 86 = .ok (.invokevirtual 40, 3) := by decide +kernel
theorem dX0_bestSet_89 : decode cX0_bestSet 89 = .ok (.ixor, 1) := by decide +kernel
theorem dX0_bestSet_90 : decode cX0_bestSet 90 = .ok (.istore_n 1, 1) := by decide +kernel
theorem dX0_bestSet_91 : decode cX0_bestSet 91 = .ok (.iload_n 2, 1) := by decide +kernel
theorem dX0_bestSet_92 : decode cX0_bestSet 92 = .ok (.aload_n 0, 1) := by decide +kernel
theorem dX0_bestSet_93 : decode cX0_bestSet 93 = .ok (.getfield 16, 3) := by decide +kernel
theorem dX0_bestSet_96 : decode cX0_bestSet 96 = .ok (.iload 5, 2) := by decide +kernel
theorem dX0_bestSet_98 : decode cX0_bestSet 98 = .ok (.baload, 1) := by decide +kernel
theorem dX0_bestSet_99 : decode cX0_bestSet 99 = .ok (.isub, 1) := by decide +kernel
theorem dX0_bestSet_100 : decode cX0_bestSet 100 = .ok (.istore_n 2, 1) := by decide +kernel
theorem dX0_bestSet_101 : decode cX0_bestSet 101 = .ok (.iinc 5 1, 3) := by decide +kernel
theorem dX0_bestSet_104 : decode cX0_bestSet 104 = .ok (.goto (-70), 3) := by decide +kernel
theorem dX0_bestSet_107 : decode cX0_bestSet 107 = .ok (.iload 4, 2) := by decide +kernel
theorem dX0_bestSet_109 : decode cX0_bestSet 109 = .ok (.ireturn, 1) := by decide +kernel
theorem dX0_extraWith_0 : decode cX0_extraWith 0 = .ok (.aload_n 0, 1) := by decide +kernel
theorem dX0_extraWith_1 : decode cX0_extraWith 1 = .ok (.iload_n 1, 1) := by decide +kernel
theorem dX0_extraWith_2 : decode cX0_extraWith 2 = .ok (.invokevirtual 37, 3) := by decide +kernel
theorem dX0_extraWith_5 : decode cX0_extraWith 5 = .ok (.ifCond .ne 5, 3) := by decide +kernel
theorem dX0_extraWith_8 : decode cX0_extraWith 8 = .ok (.iconst (-1), 1) := by decide +kernel
theorem dX0_extraWith_9 : decode cX0_extraWith 9 = .ok (.ireturn, 1) := by decide +kernel
theorem dX0_extraWith_10 : decode cX0_extraWith 10 = .ok (.aload_n 0, 1) := by decide +kernel
theorem dX0_extraWith_11 : decode cX0_extraWith 11 = .ok (.invokevirtual 64, 3) := by decide +kernel
theorem dX0_extraWith_14 : decode cX0_extraWith 14 = .ok (.aload_n 0, 1) := by decide +kernel
theorem dX0_extraWith_15 : decode cX0_extraWith 15 = .ok (.iload_n 1, 1) := by decide +kernel
theorem dX0_extraWith_16 : decode cX0_extraWith 16 = .ok (.invokevirtual 40, 3) := by decide +kernel
theorem dX0_extraWith_19 : decode cX0_extraWith 19 = .ok (.ixor, 1) := by decide +kernel
theorem dX0_extraWith_20 : decode cX0_extraWith 20 = .ok (.istore_n 2, 1) := by decide +kernel
theorem dX0_extraWith_21 : decode cX0_extraWith 21 = .ok (.aload_n 0, 1) := by decide +kernel
theorem dX0_extraWith_22 : decode cX0_extraWith 22 = .ok (.iload_n 2, 1) := by decide +kernel
theorem dX0_extraWith_23 : decode cX0_extraWith 23 = .ok (.aload_n 0, 1) := by decide +kernel
theorem dX0_extraWith_24 : decode cX0_extraWith 24 = .ok (.getfield 29, 3) := by decide +kernel
theorem dX0_extraWith_27 : decode cX0_extraWith 27 = .ok (.iconst 1, 1) := by decide +kernel
theorem dX0_extraWith_28 : decode cX0_extraWith 28 = .ok (.iload_n 1, 1) := by decide +kernel
theorem dX0_extraWith_29 : decode cX0_extraWith 29 = .ok (.ishl, 1) := by decide +kernel
theorem dX0_extraWith_30 : decode cX0_extraWith 30 = .ok (.iconst (-1), 1) := by decide +kernel
theorem dX0_extraWith_31 : decode cX0_extraWith 31 = .ok (.ixor, 1) := by decide +kernel
theorem dX0_extraWith_32 : decode cX0_extraWith 32 = .ok (.iand, 1) := by decide +kernel
end
section
set_option maxRecDepth 100000
theorem dX0_extraWith_33 : decode cX0_extraWith 33 = .ok (.invokevirtual 68, 3) := by decide +kernel
theorem dX0_extraWith_36 : decode cX0_extraWith 36 = .ok (.istore_n 3, 1) := by decide +kernel
theorem dX0_extraWith_37 : decode cX0_extraWith 37 = .ok (.iload_n 3, 1) := by decide +kernel
theorem dX0_extraWith_38 : decode cX0_extraWith 38 = .ok (.ldc 51, 2) := by decide +kernel
theorem dX0_extraWith_40 : decode cX0_extraWith 40 = .ok (.if_icmp .ge 14, 3) := by decide +kernel
theorem dX0_extraWith_43 : decode cX0_extraWith 43 = .ok (.iload_n 3, 1) := by decide +kernel
theorem dX0_extraWith_44 : decode cX0_extraWith 44 = .ok (.aload_n 0, 1) := by decide +kernel
theorem dX0_extraWith_45 : decode cX0_extraWith 45 = .ok (.getfield 16, 3) := by decide +kernel
theorem dX0_extraWith_48 : decode cX0_extraWith 48 = .ok (.iload_n 1, 1) := by decide +kernel
theorem dX0_extraWith_49 : decode cX0_extraWith 49 = .ok (.baload, 1) := by decide +kernel
theorem dX0_extraWith_50 : decode cX0_extraWith 50 = .ok (.iadd, 1) := by decide +kernel
theorem dX0_extraWith_51 : decode cX0_extraWith 51 = .ok (.goto 4, 3) := by decide +kernel
theorem dX0_extraWith_54 : decode cX0_extraWith 54 = .ok (.iconst (-1), 1) := by decide +kernel
theorem dX0_extraWith_55 : decode cX0_extraWith 55 = .ok (.ireturn, 1) := by decide +kernel
theorem dX0_extraWithout_0 : decode cX0_extraWithout 0 = .ok (.aload_n 0, 1) := by decide +kernel
theorem dX0_extraWithout_1 : decode cX0_extraWithout 1 = .ok (.iload_n 1, 1) := by decide +kernel
theorem dX0_extraWithout_2 : decode cX0_extraWithout 2 = .ok (.invokevirtual 37, 3) := by decide +kernel
theorem dX0_extraWithout_5 : decode cX0_extraWithout 5 = .ok (.ifCond .ne 5, 3) := by decide +kernel
theorem dX0_extraWithout_8 : decode cX0_extraWithout 8 = .ok (.iconst (-1), 1) := by decide +kernel
theorem dX0_extraWithout_9 : decode cX0_extraWithout 9 = .ok (.ireturn, 1) := by decide +kernel
theorem dX0_extraWithout_10 : decode cX0_extraWithout 10 = .ok (.aload_n 0, 1) := by decide +kernel
theorem dX0_extraWithout_11 : decode cX0_extraWithout 11 = .ok (.invokevirtual 64, 3) := by decide +kernel
theorem dX0_extraWithout_14 : decode cX0_extraWithout 14 = .ok (.istore_n 2, 1) := by decide +kernel
theorem dX0_extraWithout_15 : decode cX0_extraWithout 15 = .ok (.aload_n 0, 1) := by decide +kernel
theorem dX0_extraWithout_16 : decode cX0_extraWithout 16 = .ok (.iload_n 2, 1) := by decide +kernel
theorem dX0_extraWithout_17 : decode cX0_extraWithout 17 = .ok (.aload_n 0, 1) := by decide +kernel
theorem dX0_extraWithout_18 : decode cX0_extraWithout 18 = .ok (.getfield 29, 3) := by decide +kernel
theorem dX0_extraWithout_21 : decode cX0_extraWithout 21 = .ok (.iconst 1, 1) := by decide +kernel
theorem dX0_extraWithout_22 : decode cX0_extraWithout 22 = .ok (.iload_n 1, 1) := by decide +kernel
theorem dX0_extraWithout_23 : decode cX0_extraWithout 23 = .ok (.ishl, 1) := by decide +kernel
theorem dX0_extraWithout_24 : decode cX0_extraWithout 24 = .ok (.iconst (-1), 1) := by decide +kernel
theorem dX0_extraWithout_25 : decode cX0_extraWithout 25 = .ok (.ixor, 1) := by decide +kernel
theorem dX0_extraWithout_26 : decode cX0_extraWithout 26 = .ok (.iand, 1) := by decide +kernel
theorem dX0_extraWithout_27 : decode cX0_extraWithout 27 = .ok (.invokevirtual 68, 3) := by decide +kernel
theorem dX0_extraWithout_30 : decode cX0_extraWithout 30 = .ok (.istore_n 3, 1) := by decide +kernel
theorem dX0_extraWithout_31 : decode cX0_extraWithout 31 = .ok (.iload_n 3, 1) := by decide +kernel
theorem dX0_extraWithout_32 : decode cX0_extraWithout 32 = .ok (.ldc 51, 2) := by decide +kernel
theorem dX0_extraWithout_34 : decode cX0_extraWithout 34 = .ok (.if_icmp .ge 7, 3) := by decide +kernel
theorem dX0_extraWithout_37 : decode cX0_extraWithout 37 = .ok (.iload_n 3, 1) := by decide +kernel
theorem dX0_extraWithout_38 : decode cX0_extraWithout 38 = .ok (.goto 4, 3) := by decide +kernel
theorem dX0_extraWithout_41 : decode cX0_extraWithout 41 = .ok (.iconst (-1), 1) := by decide +kernel
theorem dX0_extraWithout_42 : decode cX0_extraWithout 42 = .ok (.ireturn, 1) := by decide +kernel
theorem dX0_way_0 : decode cX0_way 0 = .ok (.iload_n 1, 1) := by decide +kernel
theorem dX0_way_1 : decode cX0_way 1 = .ok (.invokestatic 33, 3) := by decide +kernel
theorem dX0_way_4 : decode cX0_way 4 = .ok (.ifCond .eq 10, 3) := by decide +kernel
theorem dX0_way_7 : decode cX0_way 7 = .ok (.iload_n 2, 1) := by decide +kernel
theorem dX0_way_8 : decode cX0_way 8 = .ok (.invokestatic 33, 3) := by decide +kernel
theorem dX0_way_11 : decode cX0_way 11 = .ok (.ifCond .ne 5, 3) := by decide +kernel
theorem dX0_way_14 : decode cX0_way 14 = .ok (.iconst (-1), 1) := by decide +kernel
theorem dX0_way_15 : decode cX0_way 15 = .ok (.ireturn, 1) := by decide +kernel
theorem dX0_way_16 : decode cX0_way 16 = .ok (.aload_n 0, 1) := by decide +kernel
theorem dX0_way_17 : decode cX0_way 17 = .ok (.aload_n 0, 1) := by decide +kernel
theorem dX0_way_18 : decode cX0_way 18 = .ok (.getfield 29, 3) := by decide +kernel
theorem dX0_way_21 : decode cX0_way 21 = .ok (.invokevirtual 56, 3) := by decide +kernel
theorem dX0_way_24 : decode cX0_way 24 = .ok (.aload_n 0, 1) := by decide +kernel
theorem dX0_way_25 : decode cX0_way 25 = .ok (.getfield 19, 3) := by decide +kernel
theorem dX0_way_28 : decode cX0_way 28 = .ok (.iload_n 1, 1) := by decide +kernel
theorem dX0_way_29 : decode cX0_way 29 = .ok (.bipush 6, 2) := by decide +kernel
theorem dX0_way_31 : decode cX0_way 31 = .ok (.imul, 1) := by decide +kernel
theorem dX0_way_32 : decode cX0_way 32 = .ok (.iload_n 2, 1) := by decide +kernel
theorem dX0_way_33 : decode cX0_way 33 = .ok (.iadd, 1) := by decide +kernel
theorem dX0_way_34 : decode cX0_way 34 = .ok (.iaload, 1) := by decide +kernel
theorem dX0_way_35 : decode cX0_way 35 = .ok (.istore_n 3, 1) := by decide +kernel
theorem dX0_way_36 : decode cX0_way 36 = .ok (.iload_n 3, 1) := by decide +kernel
theorem dX0_way_37 : decode cX0_way 37 = .ok (.ldc 51, 2) := by decide +kernel
theorem dX0_way_39 : decode cX0_way 39 = .ok (.if_icmp .ge 7, 3) := by decide +kernel
theorem dX0_way_42 : decode cX0_way 42 = .ok (.iload_n 3, 1) := by decide +kernel
theorem dX0_way_43 : decode cX0_way 43 = .ok (.goto 4, 3) := by decide +kernel
theorem dX0_way_46 : decode cX0_way 46 = .ok (.iconst (-1), 1) := by decide +kernel
theorem dX0_way_47 : decode cX0_way 47 = .ok (.ireturn, 1) := by decide +kernel
theorem dX0_walkLength_0 : decode cX0_walkLength 0 = .ok (.aload_n 0, 1) := by decide +kernel
theorem dX0_walkLength_1 : decode cX0_walkLength 1 = .ok (.invokevirtual 71, 3) := by decide +kernel
theorem dX0_walkLength_4 : decode cX0_walkLength 4 = .ok (.istore_n 1, 1) := by decide +kernel
theorem dX0_walkLength_5 : decode cX0_walkLength 5 = .ok (.iload_n 1, 1) := by decide +kernel
theorem dX0_walkLength_6 : decode cX0_walkLength 6 = .ok (.ifCond .lt 10, 3) := by decide +kernel
theorem dX0_walkLength_9 : decode cX0_walkLength 9 = .ok (.aload_n 0, 1) := by decide +kernel
theorem dX0_walkLength_10 : decode cX0_walkLength 10 = .ok (.invokevirtual 74, 3) := by decide +kernel
theorem dX0_walkLength_13 : decode cX0_walkLength 13 = .ok (.ifCond .ne 5, 3) := by decide +kernel
theorem dX0_walkLength_16 : decode cX0_walkLength 16 = .ok (.iconst (-1), 1) := by decide +kernel
theorem dX0_walkLength_17 : decode cX0_walkLength 17 = .ok (.ireturn, 1) := by decide +kernel
theorem dX0_walkLength_18 : decode cX0_walkLength 18 = .ok (.iconst 0, 1) := by decide +kernel
theorem dX0_walkLength_19 : decode cX0_walkLength 19 = .ok (.istore_n 2, 1) := by decide +kernel
theorem dX0_walkLength_20 : decode cX0_walkLength 20 = .ok (.iload_n 2, 1) := by decide +kernel
theorem dX0_walkLength_21 : decode cX0_walkLength 21 = .ok (.bipush 10, 2) := by decide +kernel
theorem dX0_walkLength_23 : decode cX0_walkLength 23 = .ok (.if_icmp .ge 26, 3) := by decide +kernel
theorem dX0_walkLength_26 : decode cX0_walkLength 26 = .ok (.aload_n 0, 1) := by decide +kernel
theorem dX0_walkLength_27 : decode cX0_walkLength 27 = .ok (.iload_n 2, 1) := by decide +kernel
theorem dX0_walkLength_28 : decode cX0_walkLength 28 = .ok (.invokevirtual 37, 3) := by decide +kernel
theorem dX0_walkLength_31 : decode cX0_walkLength 31 = .ok (.ifCond .eq 12, 3) := by decide +kernel
theorem dX0_walkLength_34 : decode cX0_walkLength 34 = .ok (.iload_n 1, 1) := by decide +kernel
theorem dX0_walkLength_35 : decode cX0_walkLength 35 = .ok (.aload_n 0, 1) := by decide +kernel
theorem dX0_walkLength_36 : decode cX0_walkLength 36 = .ok (.getfield 16, 3) := by decide +kernel
theorem dX0_walkLength_39 : decode cX0_walkLength 39 = .ok (.iload_n 2, 1) := by decide +kernel
theorem dX0_walkLength_40 : decode cX0_walkLength 40 = .ok (.baload, 1) := by decide +kernel
theorem dX0_walkLength_41 : decode cX0_walkLength 41 = .ok (.iadd, 1) := by decide +kernel
theorem dX0_walkLength_42 : decode cX0_walkLength 42 = .ok (.istore_n 1, 1) := by decide +kernel
theorem dX0_walkLength_43 : decode cX0_walkLength 43 = .ok (.iinc 2 1, 3) := by decide +kernel
theorem dX0_walkLength_46 : decode cX0_walkLength 46 = .ok (.goto (-26), 3) := by decide +kernel
theorem dX0_walkLength_49 : decode cX0_walkLength 49 = .ok (.iload_n 1, 1) := by decide +kernel
theorem dX0_walkLength_50 : decode cX0_walkLength 50 = .ok (.ireturn, 1) := by decide +kernel
theorem dX0_walkAt_0 : decode cX0_walkAt 0 = .ok (.iload_n 1, 1) := by decide +kernel
theorem dX0_walkAt_1 : decode cX0_walkAt 1 = .ok (.invokestatic 33, 3) := by decide +kernel
theorem dX0_walkAt_4 : decode cX0_walkAt 4 = .ok (.ifCond .eq 20, 3) := by decide +kernel
theorem dX0_walkAt_7 : decode cX0_walkAt 7 = .ok (.iload_n 2, 1) := by decide +kernel
theorem dX0_walkAt_8 : decode cX0_walkAt 8 = .ok (.ifCond .lt 16, 3) := by decide +kernel
theorem dX0_walkAt_11 : decode cX0_walkAt 11 = .ok (.iload_n 2, 1) := by decide +kernel
theorem dX0_walkAt_12 : decode cX0_walkAt 12 = .ok (.bipush 19, 2) := by decide +kernel
theorem dX0_walkAt_14 : decode cX0_walkAt 14 = .ok (.if_icmp .gt 10, 3) := by decide +kernel
theorem dX0_walkAt_17 : decode cX0_walkAt 17 = .ok (.aload_n 0, 1) := by decide +kernel
theorem dX0_walkAt_18 : decode cX0_walkAt 18 = .ok (.invokevirtual 78, 3) := by decide +kernel
theorem dX0_walkAt_21 : decode cX0_walkAt 21 = .ok (.ifCond .ge 5, 3) := by decide +kernel
theorem dX0_walkAt_24 : decode cX0_walkAt 24 = .ok (.iconst (-1), 1) := by decide +kernel
theorem dX0_walkAt_25 : decode cX0_walkAt 25 = .ok (.ireturn, 1) := by decide +kernel
theorem dX0_walkAt_26 : decode cX0_walkAt 26 = .ok (.aload_n 0, 1) := by decide +kernel
theorem dX0_walkAt_27 : decode cX0_walkAt 27 = .ok (.aload_n 0, 1) := by decide +kernel
theorem dX0_walkAt_28 : decode cX0_walkAt 28 = .ok (.getfield 29, 3) := by decide +kernel
theorem dX0_walkAt_31 : decode cX0_walkAt 31 = .ok (.invokevirtual 44, 3) := by decide +kernel
theorem dX0_walkAt_34 : decode cX0_walkAt 34 = .ok (.iload_n 1, 1) := by decide +kernel
theorem dX0_walkAt_35 : decode cX0_walkAt 35 = .ok (.ishr, 1) := by decide +kernel
theorem dX0_walkAt_36 : decode cX0_walkAt 36 = .ok (.iconst 1, 1) := by decide +kernel
theorem dX0_walkAt_37 : decode cX0_walkAt 37 = .ok (.iand, 1) := by decide +kernel
theorem dX0_walkAt_38 : decode cX0_walkAt 38 = .ok (.ifCond .ne 5, 3) := by decide +kernel
theorem dX0_walkAt_41 : decode cX0_walkAt 41 = .ok (.iconst (-1), 1) := by decide +kernel
theorem dX0_walkAt_42 : decode cX0_walkAt 42 = .ok (.ireturn, 1) := by decide +kernel
theorem dX0_walkAt_43 : decode cX0_walkAt 43 = .ok (.aload_n 0, 1) := by decide +kernel
theorem dX0_walkAt_44 : decode cX0_walkAt 44 = .ok (.invokevirtual 81, 3) := by decide +kernel
theorem dX0_walkAt_47 : decode cX0_walkAt 47 = .ok (.istore_n 3, 1) := by decide +kernel
theorem dX0_walkAt_48 : decode cX0_walkAt 48 = .ok (.iconst 0, 1) := by decide +kernel
theorem dX0_walkAt_49 : decode cX0_walkAt 49 = .ok (.istore 4, 2) := by decide +kernel
theorem dX0_walkAt_51 : decode cX0_walkAt 51 = .ok (.iload 4, 2) := by decide +kernel
theorem dX0_walkAt_53 : decode cX0_walkAt 53 = .ok (.bipush 10, 2) := by decide +kernel
theorem dX0_walkAt_55 : decode cX0_walkAt 55 = .ok (.if_icmp .ge 42, 3) := by decide +kernel
theorem dX0_walkAt_58 : decode cX0_walkAt 58 = .ok (.aload_n 0, 1) := by decide +kernel
theorem dX0_walkAt_59 : decode cX0_walkAt 59 = .ok (.iload 4, 2) := by decide +kernel
theorem dX0_walkAt_61 : decode cX0_walkAt 61 = .ok (.invokevirtual 37, 3) := by decide +kernel
theorem dX0_walkAt_64 : decode cX0_walkAt 64 = .ok (.ifCond .eq 7, 3) := by decide +kernel
theorem dX0_walkAt_67 : decode cX0_walkAt 67 = .ok (.iconst 1, 1) := by decide +kernel
theorem dX0_walkAt_68 : decode cX0_walkAt 68 = .ok (.goto 4, 3) := by decide +kernel
theorem dX0_walkAt_71 : decode cX0_walkAt 71 = .ok (.iconst 0, 1) := by decide +kernel
theorem dX0_walkAt_72 : decode cX0_walkAt 72 = .ok (.istore 5, 2) := by decide +kernel
theorem dX0_walkAt_74 : decode cX0_walkAt 74 = .ok (.aload_n 0, 1) := by decide +kernel
theorem dX0_walkAt_75 : decode cX0_walkAt 75 = .ok (.getfield 26, 3) := by decide +kernel
theorem dX0_walkAt_78 : decode cX0_walkAt 78 = .ok (.iload 4, 2) := by decide +kernel
theorem dX0_walkAt_80 : decode cX0_walkAt 80 = .ok (.iload 5, 2) := by decide +kernel
theorem dX0_walkAt_82 : decode cX0_walkAt 82 = .ok (.iload_n 3, 1) := by decide +kernel
theorem dX0_walkAt_83 : decode cX0_walkAt 83 = .ok (.iload 4, 2) := by decide +kernel
theorem dX0_walkAt_85 : decode cX0_walkAt 85 = .ok (.ishr, 1) := by decide +kernel
theorem dX0_walkAt_86 : decode cX0_walkAt 86 = .ok (.iconst 1, 1) := by decide +kernel
theorem dX0_walkAt_87 : decode cX0_walkAt 87 = .ok (.iand, 1) := by decide +kernel
theorem dX0_walkAt_88 : decode cX0_walkAt 88 = .ok (.iadd, 1) := by decide +kernel
theorem dX0_walkAt_89 : decode cX0_walkAt 89 = .ok (.i2b, 1) := by decide +kernel
theorem dX0_walkAt_90 : decode cX0_walkAt 90 = .ok (.bastore, 1) := by decide +kernel
theorem dX0_walkAt_91 : decode cX0_walkAt 91 = .ok (.iinc 4 1, 3) := by decide +kernel
theorem dX0_walkAt_94 : decode cX0_walkAt 94 = .ok (.goto (-43), 3) := by decide +kernel
theorem dX0_walkAt_97 : decode cX0_walkAt 97 = .ok (.iload_n 1, 1) := by decide +kernel
theorem dX0_walkAt_98 : decode cX0_walkAt 98 = .ok (.istore 4, 2) := by decide +kernel
theorem dX0_walkAt_100 : decode cX0_walkAt 100 = .ok (.iconst (-1), 1) := by decide +kernel
theorem dX0_walkAt_101 : decode cX0_walkAt 101 = .ok (.istore 5, 2) := by decide +kernel
theorem dX0_walkAt_103 : decode cX0_walkAt 103 = .ok (.iconst 0, 1) := by decide +kernel
theorem dX0_walkAt_104 : decode cX0_walkAt 104 = .ok (.istore 6, 2) := by decide +kernel
theorem dX0_walkAt_106 : decode cX0_walkAt 106 = .ok (.iload 6, 2) := by decide +kernel
theorem dX0_walkAt_108 : decode cX0_walkAt 108 = .ok (.iload_n 2, 1) := by decide +kernel
theorem dX0_walkAt_109 : decode cX0_walkAt 109 = .ok (.if_icmp .gt 56, 3) := by decide +kernel
theorem dX0_walkAt_112 : decode cX0_walkAt 112 = .ok (.aload_n 0, 1) := by decide +kernel
theorem dX0_walkAt_113 : decode cX0_walkAt 113 = .ok (.iload 4, 2) := by decide +kernel
theorem dX0_walkAt_115 : decode cX0_walkAt 115 = .ok (.invokevirtual 84, 3) := by decide +kernel
theorem dX0_walkAt_118 : decode cX0_walkAt 118 = .ok (.istore 5, 2) := by decide +kernel
theorem dX0_walkAt_120 : decode cX0_walkAt 120 = .ok (.iload 5, 2) := by decide +kernel
theorem dX0_walkAt_122 : decode cX0_walkAt 122 = .ok (.ifCond .ge 5, 3) := by decide +kernel
theorem dX0_walkAt_125 : decode cX0_walkAt 125 = .ok (.iconst (-1), 1) := by decide +kernel
theorem dX0_walkAt_126 : decode cX0_walkAt 126 = .ok (.ireturn, 1) := by decide +kernel
theorem dX0_walkAt_127 : decode cX0_walkAt 127 = .ok (.aload_n 0, 1) := by decide +kernel
theorem dX0_walkAt_128 : decode cX0_walkAt 128 = .ok (.getfield 26, 3) := by decide +kernel
theorem dX0_walkAt_131 : decode cX0_walkAt 131 = .ok (.iload 5, 2) := by decide +kernel
theorem dX0_walkAt_133 : decode cX0_walkAt 133 = .ok (.dup2, 1) := by decide +kernel
theorem dX0_walkAt_134 : decode cX0_walkAt 134 = .ok (.baload, 1) := by decide +kernel
theorem dX0_walkAt_135 : decode cX0_walkAt 135 = .ok (.iconst 1, 1) := by decide +kernel
theorem dX0_walkAt_136 : decode cX0_walkAt 136 = .ok (.isub, 1) := by decide +kernel
theorem dX0_walkAt_137 : decode cX0_walkAt 137 = .ok (.i2b, 1) := by decide +kernel
theorem dX0_walkAt_138 : decode cX0_walkAt 138 = .ok (.bastore, 1) := by decide +kernel
theorem dX0_walkAt_139 : decode cX0_walkAt 139 = .ok (.aload_n 0, 1) := by decide +kernel
theorem dX0_walkAt_140 : decode cX0_walkAt 140 = .ok (.getfield 7, 3) := by decide +kernel
theorem dX0_walkAt_143 : decode cX0_walkAt 143 = .ok (.iload 5, 2) := by decide +kernel
theorem dX0_walkAt_145 : decode cX0_walkAt 145 = .ok (.baload, 1) := by decide +kernel
theorem dX0_walkAt_146 : decode cX0_walkAt 146 = .ok (.aload_n 0, 1) := by decide +kernel
theorem dX0_walkAt_147 : decode cX0_walkAt 147 = .ok (.getfield 13, 3) := by decide +kernel
theorem dX0_walkAt_150 : decode cX0_walkAt 150 = .ok (.iload 5, 2) := by decide +kernel
theorem dX0_walkAt_152 : decode cX0_walkAt 152 = .ok (.baload, 1) := by decide +kernel
theorem dX0_walkAt_153 : decode cX0_walkAt 153 = .ok (.iadd, 1) := by decide +kernel
theorem dX0_walkAt_154 : decode cX0_walkAt 154 = .ok (.iload 4, 2) := by decide +kernel
theorem dX0_walkAt_156 : decode cX0_walkAt 156 = .ok (.isub, 1) := by decide +kernel
theorem dX0_walkAt_157 : decode cX0_walkAt 157 = .ok (.istore 4, 2) := by decide +kernel
theorem dX0_walkAt_159 : decode cX0_walkAt 159 = .ok (.iinc 6 1, 3) := by decide +kernel
theorem dX0_walkAt_162 : decode cX0_walkAt 162 = .ok (.goto (-56), 3) := by decide +kernel
theorem dX0_walkAt_165 : decode cX0_walkAt 165 = .ok (.iload 5, 2) := by decide +kernel
theorem dX0_walkAt_167 : decode cX0_walkAt 167 = .ok (.ireturn, 1) := by decide +kernel
theorem dX0_nextStreet_0 : decode cX0_nextStreet 0 = .ok (.iconst 0, 1) := by decide +kernel
theorem dX0_nextStreet_1 : decode cX0_nextStreet 1 = .ok (.istore_n 2, 1) := by decide +kernel
theorem dX0_nextStreet_2 : decode cX0_nextStreet 2 = .ok (.iload_n 2, 1) := by decide +kernel
theorem dX0_nextStreet_3 : decode cX0_nextStreet 3 = .ok (.bipush 10, 2) := by decide +kernel
theorem dX0_nextStreet_5 : decode cX0_nextStreet 5 = .ok (.if_icmp .ge 121, 3) := by decide +kernel
theorem dX0_nextStreet_8 : decode cX0_nextStreet 8 = .ok (.aload_n 0, 1) := by decide +kernel
theorem dX0_nextStreet_9 : decode cX0_nextStreet 9 = .ok (.getfield 7, 3) := by decide +kernel
theorem dX0_nextStreet_12 : decode cX0_nextStreet 12 = .ok (.iload_n 2, 1) := by decide +kernel
theorem dX0_nextStreet_13 : decode cX0_nextStreet 13 = .ok (.baload, 1) := by decide +kernel
theorem dX0_nextStreet_14 : decode cX0_nextStreet 14 = .ok (.iload_n 1, 1) := by decide +kernel
theorem dX0_nextStreet_15 : decode cX0_nextStreet 15 = .ok (.if_icmp .eq 13, 3) := by decide +kernel
theorem dX0_nextStreet_18 : decode cX0_nextStreet 18 = .ok (.aload_n 0, 1) := by decide +kernel
theorem dX0_nextStreet_19 : decode cX0_nextStreet 19 = .ok (.getfield 13, 3) := by decide +kernel
theorem dX0_nextStreet_22 : decode cX0_nextStreet 22 = .ok (.iload_n 2, 1) := by decide +kernel
theorem dX0_nextStreet_23 : decode cX0_nextStreet 23 = .ok (.baload, 1) := by decide +kernel
theorem dX0_nextStreet_24 : decode cX0_nextStreet 24 = .ok (.iload_n 1, 1) := by decide +kernel
theorem dX0_nextStreet_25 : decode cX0_nextStreet 25 = .ok (.if_icmp .ne 7, 3) := by decide +kernel
theorem dX0_nextStreet_28 : decode cX0_nextStreet 28 = .ok (.iconst 1, 1) := by decide +kernel
theorem dX0_nextStreet_29 : decode cX0_nextStreet 29 = .ok (.goto 4, 3) := by decide +kernel
theorem dX0_nextStreet_32 : decode cX0_nextStreet 32 = .ok (.iconst 0, 1) := by decide +kernel
theorem dX0_nextStreet_33 : decode cX0_nextStreet 33 = .ok (.istore_n 3, 1) := by decide +kernel
theorem dX0_nextStreet_34 : decode cX0_nextStreet 34 = .ok (.aload_n 0, 1) := by decide +kernel
theorem dX0_nextStreet_35 : decode cX0_nextStreet 35 = .ok (.getfield 26, 3) := by decide +kernel
theorem dX0_nextStreet_38 : decode cX0_nextStreet 38 = .ok (.iload_n 2, 1) := by decide +kernel
theorem dX0_nextStreet_39 : decode cX0_nextStreet 39 = .ok (.baload, 1) := by decide +kernel
theorem dX0_nextStreet_40 : decode cX0_nextStreet 40 = .ok (.ifCond .le 80, 3) := by decide +kernel
theorem dX0_nextStreet_43 : decode cX0_nextStreet 43 = .ok (.iload_n 3, 1) := by decide +kernel
theorem dX0_nextStreet_44 : decode cX0_nextStreet 44 = .ok (.ifCond .eq 76, 3) := by decide +kernel
theorem dX0_nextStreet_47 : decode cX0_nextStreet 47 = .ok (.aload_n 0, 1) := by decide +kernel
theorem dX0_nextStreet_48 : decode cX0_nextStreet 48 = .ok (.getfield 26, 3) := by decide +kernel
theorem dX0_nextStreet_51 : decode cX0_nextStreet 51 = .ok (.iload_n 2, 1) := by decide +kernel
theorem dX0_nextStreet_52 : decode cX0_nextStreet 52 = .ok (.dup2, 1) := by decide +kernel
theorem dX0_nextStreet_53 : decode cX0_nextStreet 53 = .ok (.baload, 1) := by decide +kernel
theorem dX0_nextStreet_54 : decode cX0_nextStreet 54 = .ok (.iconst 1, 1) := by decide +kernel
theorem dX0_nextStreet_55 : decode cX0_nextStreet 55 = .ok (.isub, 1) := by decide +kernel
theorem dX0_nextStreet_56 : decode cX0_nextStreet 56 = .ok (.i2b, 1) := by decide +kernel
theorem dX0_nextStreet_57 : decode cX0_nextStreet 57 = .ok (.bastore, 1) := by decide +kernel
theorem dX0_nextStreet_58 : decode cX0_nextStreet 58 = .ok (.aload_n 0, 1) := by decide +kernel
theorem dX0_nextStreet_59 : decode cX0_nextStreet 59 = .ok (.invokevirtual 87, 3) := by decide +kernel
theorem dX0_nextStreet_62 : decode cX0_nextStreet 62 = .ok (.istore 4, 2) := by decide +kernel
theorem dX0_nextStreet_64 : decode cX0_nextStreet 64 = .ok (.aload_n 0, 1) := by decide +kernel
theorem dX0_nextStreet_65 : decode cX0_nextStreet 65 = .ok (.getfield 7, 3) := by decide +kernel
theorem dX0_nextStreet_68 : decode cX0_nextStreet 68 = .ok (.iload_n 2, 1) := by decide +kernel
theorem dX0_nextStreet_69 : decode cX0_nextStreet 69 = .ok (.baload, 1) := by decide +kernel
theorem dX0_nextStreet_70 : decode cX0_nextStreet 70 = .ok (.aload_n 0, 1) := by decide +kernel
theorem dX0_nextStreet_71 : decode cX0_nextStreet 71 = .ok (.getfield 13, 3) := by decide +kernel
theorem dX0_nextStreet_74 : decode cX0_nextStreet 74 = .ok (.iload_n 2, 1) := by decide +kernel
theorem dX0_nextStreet_75 : decode cX0_nextStreet 75 = .ok (.baload, 1) := by decide +kernel
theorem dX0_nextStreet_76 : decode cX0_nextStreet 76 = .ok (.iadd, 1) := by decide +kernel
theorem dX0_nextStreet_77 : decode cX0_nextStreet 77 = .ok (.iload_n 1, 1) := by decide +kernel
theorem dX0_nextStreet_78 : decode cX0_nextStreet 78 = .ok (.isub, 1) := by decide +kernel
theorem dX0_nextStreet_79 : decode cX0_nextStreet 79 = .ok (.istore 5, 2) := by decide +kernel
theorem dX0_nextStreet_81 : decode cX0_nextStreet 81 = .ok (.aload_n 0, 1) := by decide +kernel
theorem dX0_nextStreet_82 : decode cX0_nextStreet 82 = .ok (.iconst 1, 1) := by decide +kernel
theorem dX0_nextStreet_83 : decode cX0_nextStreet 83 = .ok (.iload 5, 2) := by decide +kernel
theorem dX0_nextStreet_85 : decode cX0_nextStreet 85 = .ok (.ishl, 1) := by decide +kernel
theorem dX0_nextStreet_86 : decode cX0_nextStreet 86 = .ok (.iload 4, 2) := by decide +kernel
theorem dX0_nextStreet_88 : decode cX0_nextStreet 88 = .ok (.invokevirtual 47, 3) := by decide +kernel
theorem dX0_nextStreet_91 : decode cX0_nextStreet 91 = .ok (.istore 6, 2) := by decide +kernel
theorem dX0_nextStreet_93 : decode cX0_nextStreet 93 = .ok (.aload_n 0, 1) := by decide +kernel
theorem dX0_nextStreet_94 : decode cX0_nextStreet 94 = .ok (.getfield 26, 3) := by decide +kernel
theorem dX0_nextStreet_97 : decode cX0_nextStreet 97 = .ok (.iload_n 2, 1) := by decide +kernel
theorem dX0_nextStreet_98 : decode cX0_nextStreet 98 = .ok (.dup2, 1) := by decide +kernel
theorem dX0_nextStreet_99 : decode cX0_nextStreet 99 = .ok (.baload, 1) := by decide +kernel
theorem dX0_nextStreet_100 : decode cX0_nextStreet 100 = .ok (.iconst 1, 1) := by decide +kernel
theorem dX0_nextStreet_101 : decode cX0_nextStreet 101 = .ok (.iadd, 1) := by decide +kernel
theorem dX0_nextStreet_102 : decode cX0_nextStreet 102 = .ok (.i2b, 1) := by decide +kernel
theorem dX0_nextStreet_103 : decode cX0_nextStreet 103 = .ok (.bastore, 1) := by decide +kernel
theorem dX0_nextStreet_104 : decode cX0_nextStreet 104 = .ok (.aload_n 0, 1) := by decide +kernel
theorem dX0_nextStreet_105 : decode cX0_nextStreet 105 = .ok (.iload 4, 2) := by decide +kernel
theorem dX0_nextStreet_107 : decode cX0_nextStreet 107 = .ok (.invokevirtual 44, 3) := by decide +kernel
theorem dX0_nextStreet_110 : decode cX0_nextStreet 110 = .ok (.iload 6, 2) := by decide +kernel
theorem dX0_nextStreet_112 : decode cX0_nextStreet 112 = .ok (.iconst (-1), 1) := by decide +kernel
theorem dX0_nextStreet_113 : decode cX0_nextStreet 113 = .ok (.ixor, 1) := by decide +kernel
theorem dX0_nextStreet_114 : decode cX0_nextStreet 114 = .ok (.iand, 1) := by decide +kernel
theorem dX0_nextStreet_115 : decode cX0_nextStreet 115 = .ok (.ifCond .ne 5, 3) := by decide +kernel
theorem dX0_nextStreet_118 : decode cX0_nextStreet 118 = .ok (.iload_n 2, 1) := by decide +kernel
theorem dX0_nextStreet_119 : decode cX0_nextStreet 119 = .ok (.ireturn, 1) := by decide +kernel
theorem dX0_nextStreet_120 : decode cX0_nextStreet 120 = .ok (.iinc 2 1, 3) := by decide +kernel
theorem dX0_nextStreet_123 : decode cX0_nextStreet 123 = .ok (.goto (-121), 3) := by decide +kernel
theorem dX0_nextStreet_126 : decode cX0_nextStreet 126 = .ok (.iconst (-1), 1) := by decide +kernel
theorem dX0_nextStreet_127 : decode cX0_nextStreet 127 = .ok (.ireturn, 1) := by decide +kernel
theorem dX0_stillLeft_0 : decode cX0_stillLeft 0 = .ok (.iconst 0, 1) := by decide +kernel
theorem dX0_stillLeft_1 : decode cX0_stillLeft 1 = .ok (.istore_n 1, 1) := by decide +kernel
theorem dX0_stillLeft_2 : decode cX0_stillLeft 2 = .ok (.iconst 0, 1) := by decide +kernel
theorem dX0_stillLeft_3 : decode cX0_stillLeft 3 = .ok (.istore_n 2, 1) := by decide +kernel
theorem dX0_stillLeft_4 : decode cX0_stillLeft 4 = .ok (.iload_n 2, 1) := by decide +kernel
theorem dX0_stillLeft_5 : decode cX0_stillLeft 5 = .ok (.bipush 10, 2) := by decide +kernel
theorem dX0_stillLeft_7 : decode cX0_stillLeft 7 = .ok (.if_icmp .ge 24, 3) := by decide +kernel
theorem dX0_stillLeft_10 : decode cX0_stillLeft 10 = .ok (.aload_n 0, 1) := by decide +kernel
theorem dX0_stillLeft_11 : decode cX0_stillLeft 11 = .ok (.getfield 26, 3) := by decide +kernel
theorem dX0_stillLeft_14 : decode cX0_stillLeft 14 = .ok (.iload_n 2, 1) := by decide +kernel
theorem dX0_stillLeft_15 : decode cX0_stillLeft 15 = .ok (.baload, 1) := by decide +kernel
theorem dX0_stillLeft_16 : decode cX0_stillLeft 16 = .ok (.ifCond .le 9, 3) := by decide +kernel
theorem dX0_stillLeft_19 : decode cX0_stillLeft 19 = .ok (.iload_n 1, 1) := by decide +kernel
theorem dX0_stillLeft_20 : decode cX0_stillLeft 20 = .ok (.iconst 1, 1) := by decide +kernel
theorem dX0_stillLeft_21 : decode cX0_stillLeft 21 = .ok (.iload_n 2, 1) := by decide +kernel
theorem dX0_stillLeft_22 : decode cX0_stillLeft 22 = .ok (.ishl, 1) := by decide +kernel
theorem dX0_stillLeft_23 : decode cX0_stillLeft 23 = .ok (.ior, 1) := by decide +kernel
theorem dX0_stillLeft_24 : decode cX0_stillLeft 24 = .ok (.istore_n 1, 1) := by decide +kernel
theorem dX0_stillLeft_25 : decode cX0_stillLeft 25 = .ok (.iinc 2 1, 3) := by decide +kernel
theorem dX0_stillLeft_28 : decode cX0_stillLeft 28 = .ok (.goto (-24), 3) := by decide +kernel
theorem dX0_stillLeft_31 : decode cX0_stillLeft 31 = .ok (.iload_n 1, 1) := by decide +kernel
theorem dX0_stillLeft_32 : decode cX0_stillLeft 32 = .ok (.ireturn, 1) := by decide +kernel
end
section
set_option maxRecDepth 100000
theorem dX1_init_0 : decode cX1_init 0 = .ok (.aload_n 0, 1) := by decide +kernel
theorem dX1_init_1 : decode cX1_init 1 = .ok (.invokespecial 1, 3) := by decide +kernel
theorem dX1_init_4 : decode cX1_init 4 = .ok (.aload_n 0, 1) := by decide +kernel
theorem dX1_init_5 : decode cX1_init 5 = .ok (.bipush 10, 2) := by decide +kernel
theorem dX1_init_7 : decode cX1_init 7 = .ok (.newarray .boolean, 2) := by decide +kernel
theorem dX1_init_9 : decode cX1_init 9 = .ok (.putfield 7, 3) := by decide +kernel
theorem dX1_init_12 : decode cX1_init 12 = .ok (.aload_n 0, 1) := by decide +kernel
theorem dX1_init_13 : decode cX1_init 13 = .ok (.bipush 10, 2) := by decide +kernel
theorem dX1_init_15 : decode cX1_init 15 = .ok (.newarray .int, 2) := by decide +kernel
theorem dX1_init_17 : decode cX1_init 17 = .ok (.putfield 13, 3) := by decide +kernel
theorem dX1_init_20 : decode cX1_init 20 = .ok (.aload_n 0, 1) := by decide +kernel
theorem dX1_init_21 : decode cX1_init 21 = .ok (.bipush 10, 2) := by decide +kernel
theorem dX1_init_23 : decode cX1_init 23 = .ok (.newarray .int, 2) := by decide +kernel
theorem dX1_init_25 : decode cX1_init 25 = .ok (.putfield 17, 3) := by decide +kernel
theorem dX1_init_28 : decode cX1_init 28 = .ok (.aload_n 0, 1) := by decide +kernel
theorem dX1_init_29 : decode cX1_init 29 = .ok (.bipush 10, 2) := by decide +kernel
theorem dX1_init_31 : decode cX1_init 31 = .ok (.newarray .int, 2) := by decide +kernel
theorem dX1_init_33 : decode cX1_init 33 = .ok (.putfield 20, 3) := by decide +kernel
theorem dX1_init_36 : decode cX1_init 36 = .ok (.aload_n 0, 1) := by decide +kernel
theorem dX1_init_37 : decode cX1_init 37 = .ok (.bipush 10, 2) := by decide +kernel
theorem dX1_init_39 : decode cX1_init 39 = .ok (.newarray .int, 2) := by decide +kernel
theorem dX1_init_41 : decode cX1_init 41 = .ok (.putfield 23, 3) := by decide +kernel
theorem dX1_init_44 : decode cX1_init 44 = .ok (.aload_n 0, 1) := by decide +kernel
theorem dX1_init_45 : decode cX1_init 45 = .ok (.bipush 6, 2) := by decide +kernel
theorem dX1_init_47 : decode cX1_init 47 = .ok (.newarray .int, 2) := by decide +kernel
theorem dX1_init_49 : decode cX1_init 49 = .ok (.putfield 26, 3) := by decide +kernel
theorem dX1_init_52 : decode cX1_init 52 = .ok (.return_, 1) := by decide +kernel
theorem dX1_build_0 : decode cX1_build 0 = .ok (.iload_n 1, 1) := by decide +kernel
theorem dX1_build_1 : decode cX1_build 1 = .ok (.iload_n 2, 1) := by decide +kernel
theorem dX1_build_2 : decode cX1_build 2 = .ok (.if_icmp .eq 29, 3) := by decide +kernel
theorem dX1_build_5 : decode cX1_build 5 = .ok (.aload_n 0, 1) := by decide +kernel
theorem dX1_build_6 : decode cX1_build 6 = .ok (.iload_n 1, 1) := by decide +kernel
theorem dX1_build_7 : decode cX1_build 7 = .ok (.invokevirtual 29, 3) := by decide +kernel
theorem dX1_build_10 : decode cX1_build 10 = .ok (.ifCond .eq 21, 3) := by decide +kernel
theorem dX1_build_13 : decode cX1_build 13 = .ok (.aload_n 0, 1) := by decide +kernel
theorem dX1_build_14 : decode cX1_build 14 = .ok (.iload_n 2, 1) := by decide +kernel
theorem dX1_build_15 : decode cX1_build 15 = .ok (.invokevirtual 29, 3) := by decide +kernel
theorem dX1_build_18 : decode cX1_build 18 = .ok (.ifCond .eq 13, 3) := by decide +kernel
theorem dX1_build_21 : decode cX1_build 21 = .ok (.iload_n 3, 1) := by decide +kernel
theorem dX1_build_22 : decode cX1_build 22 = .ok (.ifCond .lt 9, 3) := by decide +kernel
theorem dX1_build_25 : decode cX1_build 25 = .ok (.iload_n 3, 1) := by decide +kernel
theorem dX1_build_26 : decode cX1_build 26 = .ok (.bipush 20, 2) := by decide +kernel
theorem dX1_build_28 : decode cX1_build 28 = .ok (.if_icmp .le 5, 3) := by decide +kernel
theorem dX1_build_31 : decode cX1_build 31 = .ok (.iconst (-1), 1) := by decide +kernel
theorem dX1_build_32 : decode cX1_build 32 = .ok (.ireturn, 1) := by decide +kernel
theorem dX1_build_33 : decode cX1_build 33 = .ok (.iconst 0, 1) := by decide +kernel
theorem dX1_build_34 : decode cX1_build 34 = .ok (.istore 4, 2) := by decide +kernel
theorem dX1_build_36 : decode cX1_build 36 = .ok (.iload 4, 2) := by decide +kernel
theorem dX1_build_38 : decode cX1_build 38 = .ok (.bipush 10, 2) := by decide +kernel
theorem dX1_build_40 : decode cX1_build 40 = .ok (.if_icmp .ge 54, 3) := by decide +kernel
theorem dX1_build_43 : decode cX1_build 43 = .ok (.aload_n 0, 1) := by decide +kernel
theorem dX1_build_44 : decode cX1_build 44 = .ok (.getfield 7, 3) := by decide +kernel
theorem dX1_build_47 : decode cX1_build 47 = .ok (.iload 4, 2) := by decide +kernel
theorem dX1_build_49 : decode cX1_build 49 = .ok (.baload, 1) := by decide +kernel
theorem dX1_build_50 : decode cX1_build 50 = .ok (.ifCond .ne 38, 3) := by decide +kernel
theorem dX1_build_53 : decode cX1_build 53 = .ok (.aload_n 0, 1) := by decide +kernel
theorem dX1_build_54 : decode cX1_build 54 = .ok (.getfield 7, 3) := by decide +kernel
theorem dX1_build_57 : decode cX1_build 57 = .ok (.iload 4, 2) := by decide +kernel
theorem dX1_build_59 : decode cX1_build 59 = .ok (.iconst 1, 1) := by decide +kernel
theorem dX1_build_60 : decode cX1_build 60 = .ok (.bastore, 1) := by decide +kernel
theorem dX1_build_61 : decode cX1_build 61 = .ok (.aload_n 0, 1) := by decide +kernel
theorem dX1_build_62 : decode cX1_build 62 = .ok (.getfield 13, 3) := by decide +kernel
theorem dX1_build_65 : decode cX1_build 65 = .ok (.iload 4, 2) := by decide +kernel
theorem dX1_build_67 : decode cX1_build 67 = .ok (.iload_n 1, 1) := by decide +kernel
theorem dX1_build_68 : decode cX1_build 68 = .ok (.iastore, 1) := by decide +kernel
theorem dX1_build_69 : decode cX1_build 69 = .ok (.aload_n 0, 1) := by decide +kernel
theorem dX1_build_70 : decode cX1_build 70 = .ok (.getfield 17, 3) := by decide +kernel
theorem dX1_build_73 : decode cX1_build 73 = .ok (.iload 4, 2) := by decide +kernel
theorem dX1_build_75 : decode cX1_build 75 = .ok (.iload_n 2, 1) := by decide +kernel
theorem dX1_build_76 : decode cX1_build 76 = .ok (.iastore, 1) := by decide +kernel
theorem dX1_build_77 : decode cX1_build 77 = .ok (.aload_n 0, 1) := by decide +kernel
theorem dX1_build_78 : decode cX1_build 78 = .ok (.getfield 20, 3) := by decide +kernel
theorem dX1_build_81 : decode cX1_build 81 = .ok (.iload 4, 2) := by decide +kernel
theorem dX1_build_83 : decode cX1_build 83 = .ok (.iload_n 3, 1) := by decide +kernel
theorem dX1_build_84 : decode cX1_build 84 = .ok (.iastore, 1) := by decide +kernel
theorem dX1_build_85 : decode cX1_build 85 = .ok (.iload 4, 2) := by decide +kernel
theorem dX1_build_87 : decode cX1_build 87 = .ok (.ireturn, 1) := by decide +kernel
theorem dX1_build_88 : decode cX1_build 88 = .ok (.iinc 4 1, 3) := by decide +kernel
theorem dX1_build_91 : decode cX1_build 91 = .ok (.goto (-55), 3) := by decide +kernel
theorem dX1_build_94 : decode cX1_build 94 = .ok (.bipush (-2), 2) := by decide +kernel
theorem dX1_build_96 : decode cX1_build 96 = .ok (.ireturn, 1) := by decide +kernel
theorem dX1_corner_0 : decode cX1_corner 0 = .ok (.iload_n 1, 1) := by decide +kernel
theorem dX1_corner_1 : decode cX1_corner 1 = .ok (.ifCond .lt 13, 3) := by decide +kernel
theorem dX1_corner_4 : decode cX1_corner 4 = .ok (.iload_n 1, 1) := by decide +kernel
theorem dX1_corner_5 : decode cX1_corner 5 = .ok (.bipush 6, 2) := by decide +kernel
theorem dX1_corner_7 : decode cX1_corner 7 = .ok (.if_icmp .ge 7, 3) := by decide +kernel
theorem dX1_corner_10 : decode cX1_corner 10 = .ok (.iconst 1, 1) := by decide +kernel
theorem dX1_corner_11 : decode cX1_corner 11 = .ok (.goto 4, 3) := by decide +kernel
theorem dX1_corner_14 : decode cX1_corner 14 = .ok (.iconst 0, 1) := by decide +kernel
theorem dX1_corner_15 : decode cX1_corner 15 = .ok (.ireturn, 1) := by decide +kernel
theorem dX1_close_0 : decode cX1_close 0 = .ok (.aload_n 0, 1) := by decide +kernel
theorem dX1_close_1 : decode cX1_close 1 = .ok (.iload_n 1, 1) := by decide +kernel
theorem dX1_close_2 : decode cX1_close 2 = .ok (.invokevirtual 33, 3) := by decide +kernel
theorem dX1_close_5 : decode cX1_close 5 = .ok (.ifCond .ne 5, 3) := by decide +kernel
theorem dX1_close_8 : decode cX1_close 8 = .ok (.iconst 0, 1) := by decide +kernel
theorem dX1_close_9 : decode cX1_close 9 = .ok (.ireturn, 1) := by decide +kernel
theorem dX1_close_10 : decode cX1_close 10 = .ok (.aload_n 0, 1) := by decide +kernel
theorem dX1_close_11 : decode cX1_close 11 = .ok (.getfield 7, 3) := by decide +kernel
theorem dX1_close_14 : decode cX1_close 14 = .ok (.iload_n 1, 1) := by decide +kernel
theorem dX1_close_15 : decode cX1_close 15 = .ok (.iconst 0, 1) := by decide +kernel
theorem dX1_close_16 : decode cX1_close 16 = .ok (.bastore, 1) := by decide +kernel
theorem dX1_close_17 : decode cX1_close 17 = .ok (.iconst 1, 1) := by decide +kernel
theorem dX1_close_18 : decode cX1_close 18 = .ok (.ireturn, 1) := by decide +kernel
theorem dX1_street_0 : decode cX1_street 0 = .ok (.iload_n 1, 1) := by decide +kernel
theorem dX1_street_1 : decode cX1_street 1 = .ok (.ifCond .lt 22, 3) := by decide +kernel
theorem dX1_street_4 : decode cX1_street 4 = .ok (.iload_n 1, 1) := by decide +kernel
theorem dX1_street_5 : decode cX1_street 5 = .ok (.bipush 10, 2) := by decide +kernel
theorem dX1_street_7 : decode cX1_street 7 = .ok (.if_icmp .ge 16, 3) := by decide +kernel
theorem dX1_street_10 : decode cX1_street 10 = .ok (.aload_n 0, 1) := by decide +kernel
theorem dX1_street_11 : decode cX1_street 11 = .ok (.getfield 7, 3) := by decide +kernel
theorem dX1_street_14 : decode cX1_street 14 = .ok (.iload_n 1, 1) := by decide +kernel
theorem dX1_street_15 : decode cX1_street 15 = .ok (.baload, 1) := by decide +kernel
theorem dX1_street_16 : decode cX1_street 16 = .ok (.ifCond .eq 7, 3) := by decide +kernel
theorem dX1_street_19 : decode cX1_street 19 = .ok (.iconst 1, 1) := by decide +kernel
theorem dX1_street_20 : decode cX1_street 20 = .ok (.goto 4, 3) := by decide +kernel
theorem dX1_street_23 : decode cX1_street 23 = .ok (.iconst 0, 1) := by decide +kernel
theorem dX1_street_24 : decode cX1_street 24 = .ok (.ireturn, 1) := by decide +kernel
theorem dX1_setLength_0 : decode cX1_setLength 0 = .ok (.aload_n 0, 1) := by decide +kernel
theorem dX1_setLength_1 : decode cX1_setLength 1 = .ok (.iload_n 1, 1) := by decide +kernel
theorem dX1_setLength_2 : decode cX1_setLength 2 = .ok (.invokevirtual 33, 3) := by decide +kernel
theorem dX1_setLength_5 : decode cX1_setLength 5 = .ok (.ifCond .eq 13, 3) := by decide +kernel
theorem dX1_setLength_8 : decode cX1_setLength 8 = .ok (.iload_n 2, 1) := by decide +kernel
theorem dX1_setLength_9 : decode cX1_setLength 9 = .ok (.ifCond .lt 9, 3) := by decide +kernel
theorem dX1_setLength_12 : decode cX1_setLength 12 = .ok (.iload_n 2, 1) := by decide +kernel
theorem dX1_setLength_13 : decode cX1_setLength 13 = .ok (.bipush 20, 2) := by decide +kernel
theorem dX1_setLength_15 : decode cX1_setLength 15 = .ok (.if_icmp .le 5, 3) := by decide +kernel
theorem dX1_setLength_18 : decode cX1_setLength 18 = .ok (.iconst 0, 1) := by decide +kernel
theorem dX1_setLength_19 : decode cX1_setLength 19 = .ok (.ireturn, 1) := by decide +kernel
theorem dX1_setLength_20 : decode cX1_setLength 20 = .ok (.aload_n 0, 1) := by decide +kernel
theorem dX1_setLength_21 : decode cX1_setLength 21 = .ok (.getfield 20, 3) := by decide +kernel
theorem dX1_setLength_24 : decode cX1_setLength 24 = .ok (.iload_n 1, 1) := by decide +kernel
theorem dX1_setLength_25 : decode cX1_setLength 25 = .ok (.iload_n 2, 1) := by decide +kernel
theorem dX1_setLength_26 : decode cX1_setLength 26 = .ok (.iastore, 1) := by decide +kernel
theorem dX1_setLength_27 : decode cX1_setLength 27 = .ok (.iconst 1, 1) := by decide +kernel
theorem dX1_setLength_28 : decode cX1_setLength 28 = .ok (.ireturn, 1) := by decide +kernel
theorem dX1_streets_0 : decode cX1_streets 0 = .ok (.iconst 0, 1) := by decide +kernel
theorem dX1_streets_1 : decode cX1_streets 1 = .ok (.istore_n 1, 1) := by decide +kernel
theorem dX1_streets_2 : decode cX1_streets 2 = .ok (.iconst 0, 1) := by decide +kernel
theorem dX1_streets_3 : decode cX1_streets 3 = .ok (.istore_n 2, 1) := by decide +kernel
theorem dX1_streets_4 : decode cX1_streets 4 = .ok (.iload_n 2, 1) := by decide +kernel
theorem dX1_streets_5 : decode cX1_streets 5 = .ok (.bipush 10, 2) := by decide +kernel
theorem dX1_streets_7 : decode cX1_streets 7 = .ok (.if_icmp .ge 28, 3) := by decide +kernel
theorem dX1_streets_10 : decode cX1_streets 10 = .ok (.iload_n 1, 1) := by decide +kernel
theorem dX1_streets_11 : decode cX1_streets 11 = .ok (.aload_n 0, 1) := by decide +kernel
theorem dX1_streets_12 : decode cX1_streets 12 = .ok (.getfield 7, 3) := by decide +kernel
theorem dX1_streets_15 : decode cX1_streets 15 = .ok (.iload_n 2, 1) := by decide +kernel
theorem dX1_streets_16 : decode cX1_streets 16 = .ok (.baload, 1) := by decide +kernel
theorem dX1_streets_17 : decode cX1_streets 17 = .ok (.ifCond .eq 9, 3) := by decide +kernel
theorem dX1_streets_20 : decode cX1_streets 20 = .ok (.iconst 1, 1) := by decide +kernel
theorem dX1_streets_21 : decode cX1_streets 21 = .ok (.iload_n 2, 1) := by decide +kernel
theorem dX1_streets_22 : decode cX1_streets 22 = .ok (.ishl, 1) := by decide +kernel
theorem dX1_streets_23 : decode cX1_streets 23 = .ok (.goto 4, 3) := by decide +kernel
theorem dX1_streets_26 : decode cX1_streets 26 = .ok (.iconst 0, 1) := by decide +kernel
theorem dX1_streets_27 : decode cX1_streets 27 = .ok (.ior, 1) := by decide +kernel
theorem dX1_streets_28 : decode cX1_streets 28 = .ok (.istore_n 1, 1) := by decide +kernel
theorem dX1_streets_29 : decode cX1_streets 29 = .ok (.iinc 2 1, 3) := by decide +kernel
theorem dX1_streets_32 : decode cX1_streets 32 = .ok (.goto (-28), 3) := by decide +kernel
theorem dX1_streets_35 : decode cX1_streets 35 = .ok (.iload_n 1, 1) := by decide +kernel
theorem dX1_streets_36 : decode cX1_streets 36 = .ok (.ireturn, 1) := by decide +kernel
theorem dX1_odd_0 : decode cX1_odd 0 = .ok (.aload_n 0, 1) := by decide +kernel
theorem dX1_odd_1 : decode cX1_odd 1 = .ok (.invokevirtual 36, 3) := by decide +kernel
theorem dX1_odd_4 : decode cX1_odd 4 = .ok (.istore_n 1, 1) := by decide +kernel
theorem dX1_odd_5 : decode cX1_odd 5 = .ok (.aload_n 0, 1) := by decide +kernel
theorem dX1_odd_6 : decode cX1_odd 6 = .ok (.iload_n 1, 1) := by decide +kernel
theorem dX1_odd_7 : decode cX1_odd 7 = .ok (.invokevirtual 40, 3) := by decide +kernel
theorem dX1_odd_10 : decode cX1_odd 10 = .ok (.ireturn, 1) := by decide +kernel
theorem dX1_oddOf_0 : decode cX1_oddOf 0 = .ok (.iconst 0, 1) := by decide +kernel
theorem dX1_oddOf_1 : decode cX1_oddOf 1 = .ok (.istore_n 2, 1) := by decide +kernel
theorem dX1_oddOf_2 : decode cX1_oddOf 2 = .ok (.iconst 0, 1) := by decide +kernel
theorem dX1_oddOf_3 : decode cX1_oddOf 3 = .ok (.istore_n 3, 1) := by decide +kernel
theorem dX1_oddOf_4 : decode cX1_oddOf 4 = .ok (.iload_n 3, 1) := by decide +kernel
theorem dX1_oddOf_5 : decode cX1_oddOf 5 = .ok (.bipush 10, 2) := by decide +kernel
theorem dX1_oddOf_7 : decode cX1_oddOf 7 = .ok (.if_icmp .ge 38, 3) := by decide +kernel
theorem dX1_oddOf_10 : decode cX1_oddOf 10 = .ok (.iload_n 1, 1) := by decide +kernel
theorem dX1_oddOf_11 : decode cX1_oddOf 11 = .ok (.iload_n 3, 1) := by decide +kernel
theorem dX1_oddOf_12 : decode cX1_oddOf 12 = .ok (.ishr, 1) := by decide +kernel
theorem dX1_oddOf_13 : decode cX1_oddOf 13 = .ok (.iconst 1, 1) := by decide +kernel
theorem dX1_oddOf_14 : decode cX1_oddOf 14 = .ok (.iand, 1) := by decide +kernel
theorem dX1_oddOf_15 : decode cX1_oddOf 15 = .ok (.iconst 1, 1) := by decide +kernel
theorem dX1_oddOf_16 : decode cX1_oddOf 16 = .ok (.if_icmp .ne 23, 3) := by decide +kernel
theorem dX1_oddOf_19 : decode cX1_oddOf 19 = .ok (.iload_n 2, 1) := by decide +kernel
theorem dX1_oddOf_20 : decode cX1_oddOf 20 = .ok (.iconst 1, 1) := by decide +kernel
theorem dX1_oddOf_21 : decode cX1_oddOf 21 = .ok (.aload_n 0, 1) := by decide +kernel
theorem dX1_oddOf_22 : decode cX1_oddOf 22 = .ok (.getfield 13, 3) := by decide +kernel
theorem dX1_oddOf_25 : decode cX1_oddOf 25 = .ok (.iload_n 3, 1) := by decide +kernel
theorem dX1_oddOf_26 : decode cX1_oddOf 26 = .ok (.iaload, 1) := by decide +kernel
theorem dX1_oddOf_27 : decode cX1_oddOf 27 = .ok (.ishl, 1) := by decide +kernel
theorem dX1_oddOf_28 : decode cX1_oddOf 28 = .ok (.ixor, 1) := by decide +kernel
theorem dX1_oddOf_29 : decode cX1_oddOf 29 = .ok (.iconst 1, 1) := by decide +kernel
theorem dX1_oddOf_30 : decode cX1_oddOf 30 = .ok (.aload_n 0, 1) := by decide +kernel
theorem dX1_oddOf_31 : decode cX1_oddOf 31 = .ok (.getfield 17, 3) := by decide +kernel
theorem dX1_oddOf_34 : decode cX1_oddOf 34 = .ok (.iload_n 3, 1) := by decide +kernel
theorem dX1_oddOf_35 : decode cX1_oddOf 35 = .ok (.iaload, 1) := by decide +kernel
theorem dX1_oddOf_36 : decode cX1_oddOf 36 = .ok (.ishl, 1) := by decide +kernel
theorem dX1_oddOf_37 : decode cX1_oddOf 37 = .ok (.ixor, 1) := by decide +kernel
theorem dX1_oddOf_38 : decode cX1_oddOf 38 = .ok (.istore_n 2, 1) := by decide +kernel
theorem dX1_oddOf_39 : decode cX1_oddOf 39 = .ok (.iinc 3 1, 3) := by decide +kernel
theorem dX1_oddOf_42 : decode cX1_oddOf 42 = .ok (.goto (-38), 3) := by decide +kernel
theorem dX1_oddOf_45 : decode cX1_oddOf 45 = .ok (.iload_n 2, 1) := by decide +kernel
theorem dX1_oddOf_46 : decode cX1_oddOf 46 = .ok (.ireturn, 1) := by decide +kernel
theorem dX1_connected_0 : decode cX1_connected 0 = .ok (.aload_n 0, 1) := by decide +kernel
theorem dX1_connected_1 : decode cX1_connected 1 = .ok (.invokevirtual 36, 3) := by decide +kernel
theorem dX1_connected_4 : decode cX1_connected 4 = .ok (.istore_n 1, 1) := by decide +kernel
theorem dX1_connected_5 : decode cX1_connected 5 = .ok (.iconst 0, 1) := by decide +kernel
theorem dX1_connected_6 : decode cX1_connected 6 = .ok (.istore_n 2, 1) := by decide +kernel
theorem dX1_connected_7 : decode cX1_connected 7 = .ok (.iload_n 2, 1) := by decide +kernel
theorem dX1_connected_8 : decode cX1_connected 8 = .ok (.bipush 10, 2) := by decide +kernel
theorem dX1_connected_10 : decode cX1_connected 10 = .ok (.if_icmp .ge 30, 3) := by decide +kernel
theorem dX1_connected_13 : decode cX1_connected 13 = .ok (.aload_n 0, 1) := by decide +kernel
theorem dX1_connected_14 : decode cX1_connected 14 = .ok (.getfield 7, 3) := by decide +kernel
theorem dX1_connected_17 : decode cX1_connected 17 = .ok (.iload_n 2, 1) := by decide +kernel
theorem dX1_connected_18 : decode cX1_connected 18 = .ok (.baload, 1) := by decide +kernel
theorem dX1_connected_19 : decode cX1_connected 19 = .ok (.ifCond .eq 15, 3) := by decide +kernel
theorem dX1_connected_22 : decode cX1_connected 22 = .ok (.aload_n 0, 1) := by decide +kernel
theorem dX1_connected_23 : decode cX1_connected 23 = .ok (.aload_n 0, 1) := by decide +kernel
theorem dX1_connected_24 : decode cX1_connected 24 = .ok (.getfield 13, 3) := by decide +kernel
theorem dX1_connected_27 : decode cX1_connected 27 = .ok (.iload_n 2, 1) := by decide +kernel
theorem dX1_connected_28 : decode cX1_connected 28 = .ok (.iaload, 1) := by decide +kernel
theorem dX1_connected_29 : decode cX1_connected 29 = .ok (.iload_n 1, 1) := by decide +kernel
theorem dX1_connected_30 : decode cX1_connected 30 = .ok (.invokevirtual 48, 3) := by decide +kernel
theorem dX1_connected_33 : decode cX1_connected 33 = .ok (.ireturn, 1) := by decide +kernel
theorem dX1_connected_34 : decode cX1_connected 34 = .ok (.iinc 2 1, 3) := by decide +kernel
theorem dX1_connected_37 : decode cX1_connected 37 = .ok (.goto (-30), 3) := by decide +kernel
theorem dX1_connected_40 : decode cX1_connected 40 = .ok (.iconst 1, 1) := by decide +kernel
theorem dX1_connected_41 : decode cX1_connected 41 = .ok (.ireturn, 1) := by decide +kernel
theorem dX1_allFrom_0 : decode cX1_allFrom 0 = .ok (.aload_n 0, 1) := by decide +kernel
theorem dX1_allFrom_1 : decode cX1_allFrom 1 = .ok (.iload_n 1, 1) := by decide +kernel
theorem dX1_allFrom_2 : decode cX1_allFrom 2 = .ok (.iload_n 2, 1) := by decide +kernel
theorem dX1_allFrom_3 : decode cX1_allFrom 3 = .ok (.invokevirtual 44, 3) := by decide +kernel
theorem dX1_allFrom_6 : decode cX1_allFrom 6 = .ok (.istore_n 3, 1) := by decide +kernel
theorem dX1_allFrom_7 : decode cX1_allFrom 7 = .ok (.iconst 1, 1) := by decide +kernel
theorem dX1_allFrom_8 : decode cX1_allFrom 8 = .ok (.istore 4, 2) := by decide +kernel
theorem dX1_allFrom_10 : decode cX1_allFrom 10 = .ok (.iconst 0, 1) := by decide +kernel
theorem dX1_allFrom_11 : decode cX1_allFrom 11 = .ok (.istore 5, 2) := by decide +kernel
theorem dX1_allFrom_13 : decode cX1_allFrom 13 = .ok (.iload 5, 2) := by decide +kernel
theorem dX1_allFrom_15 : decode cX1_allFrom 15 = .ok (.bipush 10, 2) := by decide +kernel
theorem dX1_allFrom_17 : decode cX1_allFrom 17 = .ok (.if_icmp .ge 45, 3) := by decide +kernel
theorem dX1_allFrom_20 : decode cX1_allFrom 20 = .ok (.iload 4, 2) := by decide +kernel
theorem dX1_allFrom_22 : decode cX1_allFrom 22 = .ok (.ifCond .eq 31, 3) := by decide +kernel
theorem dX1_allFrom_25 : decode cX1_allFrom 25 = .ok (.iload_n 2, 1) := by decide +kernel
theorem dX1_allFrom_26 : decode cX1_allFrom 26 = .ok (.iload 5, 2) := by decide +kernel
theorem dX1_allFrom_28 : decode cX1_allFrom 28 = .ok (.ishr, 1) := by decide +kernel
theorem dX1_allFrom_29 : decode cX1_allFrom 29 = .ok (.iconst 1, 1) := by decide +kernel
theorem dX1_allFrom_30 : decode cX1_allFrom 30 = .ok (.iand, 1) := by decide +kernel
theorem dX1_allFrom_31 : decode cX1_allFrom 31 = .ok (.ifCond .eq 18, 3) := by decide +kernel
theorem dX1_allFrom_34 : decode cX1_allFrom 34 = .ok (.iload_n 3, 1) := by decide +kernel
theorem dX1_allFrom_35 : decode cX1_allFrom 35 = .ok (.aload_n 0, 1) := by decide +kernel
theorem dX1_allFrom_36 : decode cX1_allFrom 36 = .ok (.getfield 13, 3) := by decide +kernel
theorem dX1_allFrom_39 : decode cX1_allFrom 39 = .ok (.iload 5, 2) := by decide +kernel
theorem dX1_allFrom_41 : decode cX1_allFrom 41 = .ok (.iaload, 1) := by decide +kernel
theorem dX1_allFrom_42 : decode cX1_allFrom 42 = .ok (.ishr, 1) := by decide +kernel
theorem dX1_allFrom_43 : decode cX1_allFrom 43 = .ok (.iconst 1, 1) := by decide +kernel
theorem dX1_allFrom_44 : decode cX1_allFrom 44 = .ok (.iand, 1) := by decide +kernel
theorem dX1_allFrom_45 : decode cX1_allFrom 45 = .ok (.iconst 1, 1) := by decide +kernel
theorem dX1_allFrom_46 : decode cX1_allFrom 46 = .ok (.if_icmp .ne 7, 3) := by decide +kernel
theorem dX1_allFrom_49 : decode cX1_allFrom 49 = .ok (.iconst 1, 1) := by decide +kernel
theorem dX1_allFrom_50 : decode cX1_allFrom 50 = .ok (.goto 4, 3) := by decide +kernel
theorem dX1_allFrom_53 : decode cX1_allFrom 53 = .ok (.iconst 0, 1) := by decide +kernel
theorem dX1_allFrom_54 : decode cX1_allFrom 54 = .ok (.istore 4, 2) := by decide +kernel
theorem dX1_allFrom_56 : decode cX1_allFrom 56 = .ok (.iinc 5 1, 3) := by decide +kernel
theorem dX1_allFrom_59 : decode cX1_allFrom 59 = .ok (.goto (-46), 3) := by decide +kernel
theorem dX1_allFrom_62 : decode cX1_allFrom 62 = .ok (.iload 4, 2) := by decide +kernel
theorem dX1_allFrom_64 : decode cX1_allFrom 64 = .ok (.ireturn, 1) := by decide +kernel
theorem dX1_reached_0 : decode cX1_reached 0 = .ok (.iconst 1, 1) := by decide +kernel
theorem dX1_reached_1 : decode cX1_reached 1 = .ok (.iload_n 1, 1) := by decide +kernel
theorem dX1_reached_2 : decode cX1_reached 2 = .ok (.ishl, 1) := by decide +kernel
theorem dX1_reached_3 : decode cX1_reached 3 = .ok (.istore_n 3, 1) := by decide +kernel
theorem dX1_reached_4 : decode cX1_reached 4 = .ok (.iconst 0, 1) := by decide +kernel
theorem dX1_reached_5 : decode cX1_reached 5 = .ok (.istore 4, 2) := by decide +kernel
theorem dX1_reached_7 : decode cX1_reached 7 = .ok (.iload 4, 2) := by decide +kernel
end
section
set_option maxRecDepth 100000
theorem dX1_reached_9 : decode cX1_reached 9 = .ok (.bipush 6, 2) := by decide +kernel
theorem dX1_reached_11 : decode cX1_reached 11 = .ok (.if_icmp .ge 68, 3) := by decide +kernel
theorem dX1_reached_14 : decode cX1_reached 14 = .ok (.iconst 0, 1) := by decide +kernel
theorem dX1_reached_15 : decode cX1_reached 15 = .ok (.istore 5, 2) := by decide +kernel
theorem dX1_reached_17 : decode cX1_reached 17 = .ok (.iload 5, 2) := by decide +kernel
theorem dX1_reached_19 : decode cX1_reached 19 = .ok (.bipush 10, 2) := by decide +kernel
theorem dX1_reached_21 : decode cX1_reached 21 = .ok (.if_icmp .ge 52, 3) := by decide +kernel
theorem dX1_reached_24 : decode cX1_reached 24 = .ok (.iconst 1, 1) := by decide +kernel
theorem dX1_reached_25 : decode cX1_reached 25 = .ok (.aload_n 0, 1) := by decide +kernel
theorem dX1_reached_26 : decode cX1_reached 26 = .ok (.getfield 13, 3) := by decide +kernel
theorem dX1_reached_29 : decode cX1_reached 29 = .ok (.iload 5, 2) := by decide +kernel
theorem dX1_reached_31 : decode cX1_reached 31 = .ok (.iaload, 1) := by decide +kernel
theorem dX1_reached_32 : decode cX1_reached 32 = .ok (.ishl, 1) := by decide +kernel
theorem dX1_reached_33 : decode cX1_reached 33 = .ok (.iconst 1, 1) := by decide +kernel
theorem dX1_reached_34 : decode cX1_reached 34 = .ok (.aload_n 0, 1) := by decide +kernel
theorem dX1_reached_35 : decode cX1_reached 35 = .ok (.getfield 17, 3) := by decide +kernel
theorem dX1_reached_38 : decode cX1_reached 38 = .ok (.iload 5, 2) := by decide +kernel
theorem dX1_reached_40 : decode cX1_reached 40 = .ok (.iaload, 1) := by decide +kernel
theorem dX1_reached_41 : decode cX1_reached 41 = .ok (.ishl, 1) := by decide +kernel
theorem dX1_reached_42 : decode cX1_reached 42 = .ok (.ior, 1) := by decide +kernel
theorem dX1_reached_43 : decode cX1_reached 43 = .ok (.istore 6, 2) := by decide +kernel
theorem dX1_reached_45 : decode cX1_reached 45 = .ok (.iload_n 2, 1) := by decide +kernel
theorem dX1_reached_46 : decode cX1_reached 46 = .ok (.iload 5, 2) := by decide +kernel
theorem dX1_reached_48 : decode cX1_reached 48 = .ok (.ishr, 1) := by decide +kernel
theorem dX1_reached_49 : decode cX1_reached 49 = .ok (.iconst 1, 1) := by decide +kernel
theorem dX1_reached_50 : decode cX1_reached 50 = .ok (.iand, 1) := by decide +kernel
theorem dX1_reached_51 : decode cX1_reached 51 = .ok (.iconst 1, 1) := by decide +kernel
theorem dX1_reached_52 : decode cX1_reached 52 = .ok (.if_icmp .ne 15, 3) := by decide +kernel
theorem dX1_reached_55 : decode cX1_reached 55 = .ok (.iload_n 3, 1) := by decide +kernel
theorem dX1_reached_56 : decode cX1_reached 56 = .ok (.iload 6, 2) := by decide +kernel
theorem dX1_reached_58 : decode cX1_reached 58 = .ok (.iand, 1) := by decide +kernel
theorem dX1_reached_59 : decode cX1_reached 59 = .ok (.ifCond .eq 8, 3) := by decide +kernel
theorem dX1_reached_62 : decode cX1_reached 62 = .ok (.iload_n 3, 1) := by decide +kernel
theorem dX1_reached_63 : decode cX1_reached 63 = .ok (.iload 6, 2) := by decide +kernel
theorem dX1_reached_65 : decode cX1_reached 65 = .ok (.ior, 1) := by decide +kernel
theorem dX1_reached_66 : decode cX1_reached 66 = .ok (.istore_n 3, 1) := by decide +kernel
theorem dX1_reached_67 : decode cX1_reached 67 = .ok (.iinc 5 1, 3) := by decide +kernel
theorem dX1_reached_70 : decode cX1_reached 70 = .ok (.goto (-53), 3) := by decide +kernel
theorem dX1_reached_73 : decode cX1_reached 73 = .ok (.iinc 4 1, 3) := by decide +kernel
theorem dX1_reached_76 : decode cX1_reached 76 = .ok (.goto (-69), 3) := by decide +kernel
theorem dX1_reached_79 : decode cX1_reached 79 = .ok (.iload_n 3, 1) := by decide +kernel
theorem dX1_reached_80 : decode cX1_reached 80 = .ok (.ireturn, 1) := by decide +kernel
theorem dX1_extra_0 : decode cX1_extra 0 = .ok (.aload_n 0, 1) := by decide +kernel
theorem dX1_extra_1 : decode cX1_extra 1 = .ok (.iconst 0, 1) := by decide +kernel
theorem dX1_extra_2 : decode cX1_extra 2 = .ok (.iconst 0, 1) := by decide +kernel
theorem dX1_extra_3 : decode cX1_extra 3 = .ok (.invokevirtual 62, 3) := by decide +kernel
theorem dX1_extra_6 : decode cX1_extra 6 = .ok (.istore_n 1, 1) := by decide +kernel
theorem dX1_extra_7 : decode cX1_extra 7 = .ok (.iload_n 1, 1) := by decide +kernel
theorem dX1_extra_8 : decode cX1_extra 8 = .ok (.ifCond .ge 7, 3) := by decide +kernel
theorem dX1_extra_11 : decode cX1_extra 11 = .ok (.iconst (-1), 1) := by decide +kernel
theorem dX1_extra_12 : decode cX1_extra 12 = .ok (.goto 8, 3) := by decide +kernel
theorem dX1_extra_15 : decode cX1_extra 15 = .ok (.aload_n 0, 1) := by decide +kernel
theorem dX1_extra_16 : decode cX1_extra 16 = .ok (.iload_n 1, 1) := by decide +kernel
theorem dX1_extra_17 : decode cX1_extra 17 = .ok (.invokevirtual 58, 3) := by decide +kernel
theorem dX1_extra_20 : decode cX1_extra 20 = .ok (.ireturn, 1) := by decide +kernel
theorem dX1_first_0 : decode cX1_first 0 = .ok (.iconst (-1), 1) := by decide +kernel
theorem dX1_first_1 : decode cX1_first 1 = .ok (.istore_n 3, 1) := by decide +kernel
theorem dX1_first_2 : decode cX1_first 2 = .ok (.aload_n 0, 1) := by decide +kernel
theorem dX1_first_3 : decode cX1_first 3 = .ok (.invokevirtual 36, 3) := by decide +kernel
theorem dX1_first_6 : decode cX1_first 6 = .ok (.istore 4, 2) := by decide +kernel
theorem dX1_first_8 : decode cX1_first 8 = .ok (.aload_n 0, 1) := by decide +kernel
theorem dX1_first_9 : decode cX1_first 9 = .ok (.invokevirtual 52, 3) := by decide +kernel
theorem dX1_first_12 : decode cX1_first 12 = .ok (.istore 5, 2) := by decide +kernel
theorem dX1_first_14 : decode cX1_first 14 = .ok (.iconst 0, 1) := by decide +kernel
theorem dX1_first_15 : decode cX1_first 15 = .ok (.istore 6, 2) := by decide +kernel
theorem dX1_first_17 : decode cX1_first 17 = .ok (.iload 6, 2) := by decide +kernel
theorem dX1_first_19 : decode cX1_first 19 = .ok (.sipush 1024, 3) := by decide +kernel
theorem dX1_first_22 : decode cX1_first 22 = .ok (.if_icmp .ge 91, 3) := by decide +kernel
theorem dX1_first_25 : decode cX1_first 25 = .ok (.aload_n 0, 1) := by decide +kernel
theorem dX1_first_26 : decode cX1_first 26 = .ok (.iload 6, 2) := by decide +kernel
theorem dX1_first_28 : decode cX1_first 28 = .ok (.invokevirtual 55, 3) := by decide +kernel
theorem dX1_first_31 : decode cX1_first 31 = .ok (.istore 7, 2) := by decide +kernel
theorem dX1_first_33 : decode cX1_first 33 = .ok (.iload 7, 2) := by decide +kernel
theorem dX1_first_35 : decode cX1_first 35 = .ok (.iload 4, 2) := by decide +kernel
theorem dX1_first_37 : decode cX1_first 37 = .ok (.iconst (-1), 1) := by decide +kernel
theorem dX1_first_38 : decode cX1_first 38 = .ok (.ixor, 1) := by decide +kernel
theorem dX1_first_39 : decode cX1_first 39 = .ok (.iand, 1) := by decide +kernel
theorem dX1_first_40 : decode cX1_first 40 = .ok (.ifCond .ne 67, 3) := by decide +kernel
theorem dX1_first_43 : decode cX1_first 43 = .ok (.iload 7, 2) := by decide +kernel
theorem dX1_first_45 : decode cX1_first 45 = .ok (.iload_n 1, 1) := by decide +kernel
theorem dX1_first_46 : decode cX1_first 46 = .ok (.iand, 1) := by decide +kernel
theorem dX1_first_47 : decode cX1_first 47 = .ok (.iload_n 1, 1) := by decide +kernel
theorem dX1_first_48 : decode cX1_first 48 = .ok (.if_icmp .ne 59, 3) := by decide +kernel
theorem dX1_first_51 : decode cX1_first 51 = .ok (.iload 7, 2) := by decide +kernel
theorem dX1_first_53 : decode cX1_first 53 = .ok (.iload_n 2, 1) := by decide +kernel
theorem dX1_first_54 : decode cX1_first 54 = .ok (.iand, 1) := by decide +kernel
theorem dX1_first_55 : decode cX1_first 55 = .ok (.ifCond .ne 52, 3) := by decide +kernel
theorem dX1_first_58 : decode cX1_first 58 = .ok (.aload_n 0, 1) := by decide +kernel
theorem dX1_first_59 : decode cX1_first 59 = .ok (.iload 7, 2) := by decide +kernel
theorem dX1_first_61 : decode cX1_first 61 = .ok (.invokevirtual 40, 3) := by decide +kernel
theorem dX1_first_64 : decode cX1_first 64 = .ok (.iload 5, 2) := by decide +kernel
theorem dX1_first_66 : decode cX1_first 66 = .ok (.if_icmp .ne 41, 3) := by decide +kernel
theorem dX1_first_69 : decode cX1_first 69 = .ok (.aload_n 0, 1) := by decide +kernel
theorem dX1_first_70 : decode cX1_first 70 = .ok (.iload 7, 2) := by decide +kernel
theorem dX1_first_72 : decode cX1_first 72 = .ok (.invokevirtual 58, 3) := by decide +kernel
theorem dX1_first_75 : decode cX1_first 75 = .ok (.istore 8, 2) := by decide +kernel
theorem dX1_first_77 : decode cX1_first 77 = .ok (.iload_n 3, 1) := by decide +kernel
theorem dX1_first_78 : decode cX1_first 78 = .ok (.ifCond .ge 8, 3) := by decide +kernel
theorem dX1_first_81 : decode cX1_first 81 = .ok (.ldc 61, 2) := by decide +kernel
theorem dX1_first_83 : decode cX1_first 83 = .ok (.goto 8, 3) := by decide +kernel
theorem dX1_first_86 : decode cX1_first 86 = .ok (.aload_n 0, 1) := by decide +kernel
theorem dX1_first_87 : decode cX1_first 87 = .ok (.iload_n 3, 1) := by decide +kernel
theorem dX1_first_88 : decode cX1_first 88 = .ok (.invokevirtual 58, 3) := by decide +kernel
theorem dX1_first_91 : decode cX1_first 91 = .ok (.istore 9, 2) := by decide +kernel
theorem dX1_first_93 : decode cX1_first 93 = .ok (.iload 8, 2) := by decide +kernel
theorem dX1_first_95 : decode cX1_first 95 = .ok (.iload 9, 2) := by decide +kernel
theorem dX1_first_97 : decode cX1_first 97 = .ok (.if_icmp .ge 8, 3) := by decide +kernel
theorem dX1_first_100 : decode cX1_first 100 = .ok (.iload 7, 2) := by decide +kernel
theorem dX1_first_102 : decode cX1_first 102 = .ok (.goto 4, 3) := by decide +kernel
theorem dX1_first_105 : decode cX1_first 105 = .ok (.iload_n 3, 1) := by decide +kernel
theorem dX1_first_106 : decode cX1_first 106 = .ok (.istore_n 3, 1) := by decide +kernel
theorem dX1_first_107 : decode cX1_first 107 = .ok (.iinc 6 1, 3) := by decide +kernel
theorem dX1_first_110 : decode cX1_first 110 = .ok (.goto (-93), 3) := by decide +kernel
theorem dX1_first_113 : decode cX1_first 113 = .ok (.iload_n 3, 1) := by decide +kernel
theorem dX1_first_114 : decode cX1_first 114 = .ok (.ireturn, 1) := by decide +kernel
theorem dX1_setOf_0 : decode cX1_setOf 0 = .ok (.iconst 0, 1) := by decide +kernel
theorem dX1_setOf_1 : decode cX1_setOf 1 = .ok (.istore_n 2, 1) := by decide +kernel
theorem dX1_setOf_2 : decode cX1_setOf 2 = .ok (.iconst 0, 1) := by decide +kernel
theorem dX1_setOf_3 : decode cX1_setOf 3 = .ok (.istore_n 3, 1) := by decide +kernel
theorem dX1_setOf_4 : decode cX1_setOf 4 = .ok (.iload_n 3, 1) := by decide +kernel
theorem dX1_setOf_5 : decode cX1_setOf 5 = .ok (.bipush 10, 2) := by decide +kernel
theorem dX1_setOf_7 : decode cX1_setOf 7 = .ok (.if_icmp .ge 22, 3) := by decide +kernel
theorem dX1_setOf_10 : decode cX1_setOf 10 = .ok (.iload_n 2, 1) := by decide +kernel
theorem dX1_setOf_11 : decode cX1_setOf 11 = .ok (.iload_n 1, 1) := by decide +kernel
theorem dX1_setOf_12 : decode cX1_setOf 12 = .ok (.bipush 9, 2) := by decide +kernel
theorem dX1_setOf_14 : decode cX1_setOf 14 = .ok (.iload_n 3, 1) := by decide +kernel
theorem dX1_setOf_15 : decode cX1_setOf 15 = .ok (.isub, 1) := by decide +kernel
theorem dX1_setOf_16 : decode cX1_setOf 16 = .ok (.ishr, 1) := by decide +kernel
theorem dX1_setOf_17 : decode cX1_setOf 17 = .ok (.iconst 1, 1) := by decide +kernel
theorem dX1_setOf_18 : decode cX1_setOf 18 = .ok (.iand, 1) := by decide +kernel
theorem dX1_setOf_19 : decode cX1_setOf 19 = .ok (.iload_n 3, 1) := by decide +kernel
theorem dX1_setOf_20 : decode cX1_setOf 20 = .ok (.ishl, 1) := by decide +kernel
theorem dX1_setOf_21 : decode cX1_setOf 21 = .ok (.ior, 1) := by decide +kernel
theorem dX1_setOf_22 : decode cX1_setOf 22 = .ok (.istore_n 2, 1) := by decide +kernel
theorem dX1_setOf_23 : decode cX1_setOf 23 = .ok (.iinc 3 1, 3) := by decide +kernel
theorem dX1_setOf_26 : decode cX1_setOf 26 = .ok (.goto (-22), 3) := by decide +kernel
theorem dX1_setOf_29 : decode cX1_setOf 29 = .ok (.iload_n 2, 1) := by decide +kernel
theorem dX1_setOf_30 : decode cX1_setOf 30 = .ok (.ireturn, 1) := by decide +kernel
theorem dX1_lengthOf_0 : decode cX1_lengthOf 0 = .ok (.iconst 0, 1) := by decide +kernel
theorem dX1_lengthOf_1 : decode cX1_lengthOf 1 = .ok (.istore_n 2, 1) := by decide +kernel
theorem dX1_lengthOf_2 : decode cX1_lengthOf 2 = .ok (.iconst 0, 1) := by decide +kernel
theorem dX1_lengthOf_3 : decode cX1_lengthOf 3 = .ok (.istore_n 3, 1) := by decide +kernel
theorem dX1_lengthOf_4 : decode cX1_lengthOf 4 = .ok (.iload_n 3, 1) := by decide +kernel
theorem dX1_lengthOf_5 : decode cX1_lengthOf 5 = .ok (.bipush 10, 2) := by decide +kernel
theorem dX1_lengthOf_7 : decode cX1_lengthOf 7 = .ok (.if_icmp .ge 31, 3) := by decide +kernel
theorem dX1_lengthOf_10 : decode cX1_lengthOf 10 = .ok (.iload_n 2, 1) := by decide +kernel
theorem dX1_lengthOf_11 : decode cX1_lengthOf 11 = .ok (.iload_n 1, 1) := by decide +kernel
theorem dX1_lengthOf_12 : decode cX1_lengthOf 12 = .ok (.iload_n 3, 1) := by decide +kernel
theorem dX1_lengthOf_13 : decode cX1_lengthOf 13 = .ok (.ishr, 1) := by decide +kernel
theorem dX1_lengthOf_14 : decode cX1_lengthOf 14 = .ok (.iconst 1, 1) := by decide +kernel
theorem dX1_lengthOf_15 : decode cX1_lengthOf 15 = .ok (.iand, 1) := by decide +kernel
theorem dX1_lengthOf_16 : decode cX1_lengthOf 16 = .ok (.iconst 1, 1) := by decide +kernel
theorem dX1_lengthOf_17 : decode cX1_lengthOf 17 = .ok (.if_icmp .ne 12, 3) := by decide +kernel
theorem dX1_lengthOf_20 : decode cX1_lengthOf 20 = .ok (.aload_n 0, 1) := by decide +kernel
theorem dX1_lengthOf_21 : decode cX1_lengthOf 21 = .ok (.getfield 20, 3) := by decide +kernel
theorem dX1_lengthOf_24 : decode cX1_lengthOf 24 = .ok (.iload_n 3, 1) := by decide +kernel
theorem dX1_lengthOf_25 : decode cX1_lengthOf 25 = .ok (.iaload, 1) := by decide +kernel
theorem dX1_lengthOf_26 : decode cX1_lengthOf 26 = .ok (.goto 4, 3) := by decide +kernel
theorem dX1_lengthOf_29 : decode cX1_lengthOf 29 = .ok (.iconst 0, 1) := by decide +kernel
theorem dX1_lengthOf_30 : decode cX1_lengthOf 30 = .ok (.iadd, 1) := by decide +kernel
theorem dX1_lengthOf_31 : decode cX1_lengthOf 31 = .ok (.istore_n 2, 1) := by decide +kernel
theorem dX1_lengthOf_32 : decode cX1_lengthOf 32 = .ok (.iinc 3 1, 3) := by decide +kernel
theorem dX1_lengthOf_35 : decode cX1_lengthOf 35 = .ok (.goto (-31), 3) := by decide +kernel
theorem dX1_lengthOf_38 : decode cX1_lengthOf 38 = .ok (.iload_n 2, 1) := by decide +kernel
theorem dX1_lengthOf_39 : decode cX1_lengthOf 39 = .ok (.ireturn, 1) := by decide +kernel
theorem dX1_bestSet_0 : decode cX1_bestSet 0 = .ok (.aload_n 0, 1) := by decide +kernel
theorem dX1_bestSet_1 : decode cX1_bestSet 1 = .ok (.iconst 0, 1) := by decide +kernel
theorem dX1_bestSet_2 : decode cX1_bestSet 2 = .ok (.iconst 0, 1) := by decide +kernel
theorem dX1_bestSet_3 : decode cX1_bestSet 3 = .ok (.invokevirtual 62, 3) := by decide +kernel
theorem dX1_bestSet_6 : decode cX1_bestSet 6 = .ok (.ireturn, 1) := by decide +kernel
theorem dX1_extraWith_0 : decode cX1_extraWith 0 = .ok (.aload_n 0, 1) := by decide +kernel
theorem dX1_extraWith_1 : decode cX1_extraWith 1 = .ok (.iload_n 1, 1) := by decide +kernel
theorem dX1_extraWith_2 : decode cX1_extraWith 2 = .ok (.invokevirtual 33, 3) := by decide +kernel
theorem dX1_extraWith_5 : decode cX1_extraWith 5 = .ok (.ifCond .ne 5, 3) := by decide +kernel
theorem dX1_extraWith_8 : decode cX1_extraWith 8 = .ok (.iconst (-1), 1) := by decide +kernel
theorem dX1_extraWith_9 : decode cX1_extraWith 9 = .ok (.ireturn, 1) := by decide +kernel
theorem dX1_extraWith_10 : decode cX1_extraWith 10 = .ok (.aload_n 0, 1) := by decide +kernel
theorem dX1_extraWith_11 : decode cX1_extraWith 11 = .ok (.iconst 1, 1) := by decide +kernel
theorem dX1_extraWith_12 : decode cX1_extraWith 12 = .ok (.iload_n 1, 1) := by decide +kernel
theorem dX1_extraWith_13 : decode cX1_extraWith 13 = .ok (.ishl, 1) := by decide +kernel
theorem dX1_extraWith_14 : decode cX1_extraWith 14 = .ok (.iconst 0, 1) := by decide +kernel
theorem dX1_extraWith_15 : decode cX1_extraWith 15 = .ok (.invokevirtual 62, 3) := by decide +kernel
theorem dX1_extraWith_18 : decode cX1_extraWith 18 = .ok (.istore_n 2, 1) := by decide +kernel
theorem dX1_extraWith_19 : decode cX1_extraWith 19 = .ok (.iload_n 2, 1) := by decide +kernel
theorem dX1_extraWith_20 : decode cX1_extraWith 20 = .ok (.ifCond .ge 7, 3) := by decide +kernel
theorem dX1_extraWith_23 : decode cX1_extraWith 23 = .ok (.iconst (-1), 1) := by decide +kernel
theorem dX1_extraWith_24 : decode cX1_extraWith 24 = .ok (.goto 8, 3) := by decide +kernel
theorem dX1_extraWith_27 : decode cX1_extraWith 27 = .ok (.aload_n 0, 1) := by decide +kernel
theorem dX1_extraWith_28 : decode cX1_extraWith 28 = .ok (.iload_n 2, 1) := by decide +kernel
theorem dX1_extraWith_29 : decode cX1_extraWith 29 = .ok (.invokevirtual 58, 3) := by decide +kernel
theorem dX1_extraWith_32 : decode cX1_extraWith 32 = .ok (.ireturn, 1) := by decide +kernel
theorem dX1_extraWithout_0 : decode cX1_extraWithout 0 = .ok (.aload_n 0, 1) := by decide +kernel
theorem dX1_extraWithout_1 : decode cX1_extraWithout 1 = .ok (.iload_n 1, 1) := by decide +kernel
theorem dX1_extraWithout_2 : decode cX1_extraWithout 2 = .ok (.invokevirtual 33, 3) := by decide +kernel
theorem dX1_extraWithout_5 : decode cX1_extraWithout 5 = .ok (.ifCond .ne 5, 3) := by decide +kernel
theorem dX1_extraWithout_8 : decode cX1_extraWithout 8 = .ok (.iconst (-1), 1) := by decide +kernel
theorem dX1_extraWithout_9 : decode cX1_extraWithout 9 = .ok (.ireturn, 1) := by decide +kernel
theorem dX1_extraWithout_10 : decode cX1_extraWithout 10 = .ok (.aload_n 0, 1) := by decide +kernel
theorem dX1_extraWithout_11 : decode cX1_extraWithout 11 = .ok (.iconst 0, 1) := by decide +kernel
theorem dX1_extraWithout_12 : decode cX1_extraWithout 12 = .ok (.iconst 1, 1) := by decide +kernel
theorem dX1_extraWithout_13 : decode cX1_extraWithout 13 = .ok (.iload_n 1, 1) := by decide +kernel
theorem dX1_extraWithout_14 : decode cX1_extraWithout 14 = .ok (.ishl, 1) := by decide +kernel
theorem dX1_extraWithout_15 : decode cX1_extraWithout 15 = .ok (.invokevirtual 62, 3) := by decide +kernel
theorem dX1_extraWithout_18 : decode cX1_extraWithout 18 = .ok (.istore_n 2, 1) := by decide +kernel
theorem dX1_extraWithout_19 : decode cX1_extraWithout 19 = .ok (.iload_n 2, 1) := by decide +kernel
theorem dX1_extraWithout_20 : decode cX1_extraWithout 20 = .ok (.ifCond .ge 7, 3) := by decide +kernel
theorem dX1_extraWithout_23 : decode cX1_extraWithout 23 = .ok (.iconst (-1), 1) := by decide +kernel
theorem dX1_extraWithout_24 : decode cX1_extraWithout 24 = .ok (.goto 8, 3) := by decide +kernel
theorem dX1_extraWithout_27 : decode cX1_extraWithout 27 = .ok (.aload_n 0, 1) := by decide +kernel
theorem dX1_extraWithout_28 : decode cX1_extraWithout 28 = .ok (.iload_n 2, 1) := by decide +kernel
theorem dX1_extraWithout_29 : decode cX1_extraWithout 29 = .ok (.invokevirtual 58, 3) := by decide +kernel
theorem dX1_extraWithout_32 : decode cX1_extraWithout 32 = .ok (.ireturn, 1) := by decide +kernel
theorem dX1_way_0 : decode cX1_way 0 = .ok (.aload_n 0, 1) := by decide +kernel
theorem dX1_way_1 : decode cX1_way 1 = .ok (.iload_n 1, 1) := by decide +kernel
theorem dX1_way_2 : decode cX1_way 2 = .ok (.invokevirtual 29, 3) := by decide +kernel
theorem dX1_way_5 : decode cX1_way 5 = .ok (.ifCond .eq 11, 3) := by decide +kernel
theorem dX1_way_8 : decode cX1_way 8 = .ok (.aload_n 0, 1) := by decide +kernel
theorem dX1_way_9 : decode cX1_way 9 = .ok (.iload_n 2, 1) := by decide +kernel
theorem dX1_way_10 : decode cX1_way 10 = .ok (.invokevirtual 29, 3) := by decide +kernel
theorem dX1_way_13 : decode cX1_way 13 = .ok (.ifCond .ne 5, 3) := by decide +kernel
theorem dX1_way_16 : decode cX1_way 16 = .ok (.iconst (-1), 1) := by decide +kernel
theorem dX1_way_17 : decode cX1_way 17 = .ok (.ireturn, 1) := by decide +kernel
theorem dX1_way_18 : decode cX1_way 18 = .ok (.iconst 0, 1) := by decide +kernel
theorem dX1_way_19 : decode cX1_way 19 = .ok (.istore_n 3, 1) := by decide +kernel
theorem dX1_way_20 : decode cX1_way 20 = .ok (.iload_n 3, 1) := by decide +kernel
theorem dX1_way_21 : decode cX1_way 21 = .ok (.bipush 6, 2) := by decide +kernel
theorem dX1_way_23 : decode cX1_way 23 = .ok (.if_icmp .ge 26, 3) := by decide +kernel
theorem dX1_way_26 : decode cX1_way 26 = .ok (.aload_n 0, 1) := by decide +kernel
theorem dX1_way_27 : decode cX1_way 27 = .ok (.getfield 26, 3) := by decide +kernel
theorem dX1_way_30 : decode cX1_way 30 = .ok (.iload_n 3, 1) := by decide +kernel
theorem dX1_way_31 : decode cX1_way 31 = .ok (.iload_n 3, 1) := by decide +kernel
theorem dX1_way_32 : decode cX1_way 32 = .ok (.iload_n 1, 1) := by decide +kernel
theorem dX1_way_33 : decode cX1_way 33 = .ok (.if_icmp .ne 7, 3) := by decide +kernel
theorem dX1_way_36 : decode cX1_way 36 = .ok (.iconst 0, 1) := by decide +kernel
theorem dX1_way_37 : decode cX1_way 37 = .ok (.goto 5, 3) := by decide +kernel
theorem dX1_way_40 : decode cX1_way 40 = .ok (.ldc 61, 2) := by decide +kernel
theorem dX1_way_42 : decode cX1_way 42 = .ok (.iastore, 1) := by decide +kernel
theorem dX1_way_43 : decode cX1_way 43 = .ok (.iinc 3 1, 3) := by decide +kernel
theorem dX1_way_46 : decode cX1_way 46 = .ok (.goto (-26), 3) := by decide +kernel
theorem dX1_way_49 : decode cX1_way 49 = .ok (.iconst 0, 1) := by decide +kernel
theorem dX1_way_50 : decode cX1_way 50 = .ok (.istore_n 3, 1) := by decide +kernel
theorem dX1_way_51 : decode cX1_way 51 = .ok (.iload_n 3, 1) := by decide +kernel
theorem dX1_way_52 : decode cX1_way 52 = .ok (.bipush 6, 2) := by decide +kernel
theorem dX1_way_54 : decode cX1_way 54 = .ok (.if_icmp .ge 171, 3) := by decide +kernel
theorem dX1_way_57 : decode cX1_way 57 = .ok (.iconst 0, 1) := by decide +kernel
theorem dX1_way_58 : decode cX1_way 58 = .ok (.istore 4, 2) := by decide +kernel
theorem dX1_way_60 : decode cX1_way 60 = .ok (.iload 4, 2) := by decide +kernel
theorem dX1_way_62 : decode cX1_way 62 = .ok (.bipush 10, 2) := by decide +kernel
theorem dX1_way_64 : decode cX1_way 64 = .ok (.if_icmp .ge 155, 3) := by decide +kernel
theorem dX1_way_67 : decode cX1_way 67 = .ok (.aload_n 0, 1) := by decide +kernel
theorem dX1_way_68 : decode cX1_way 68 = .ok (.getfield 7, 3) := by decide +kernel
theorem dX1_way_71 : decode cX1_way 71 = .ok (.iload 4, 2) := by decide +kernel
theorem dX1_way_73 : decode cX1_way 73 = .ok (.baload, 1) := by decide +kernel
theorem dX1_way_74 : decode cX1_way 74 = .ok (.ifCond .eq 139, 3) := by decide +kernel
theorem dX1_way_77 : decode cX1_way 77 = .ok (.aload_n 0, 1) := by decide +kernel
theorem dX1_way_78 : decode cX1_way 78 = .ok (.getfield 26, 3) := by decide +kernel
theorem dX1_way_81 : decode cX1_way 81 = .ok (.aload_n 0, 1) := by decide +kernel
theorem dX1_way_82 : decode cX1_way 82 = .ok (.getfield 13, 3) := by decide +kernel
theorem dX1_way_85 : decode cX1_way 85 = .ok (.iload 4, 2) := by decide +kernel
theorem dX1_way_87 : decode cX1_way 87 = .ok (.iaload, 1) := by decide +kernel
theorem dX1_way_88 : decode cX1_way 88 = .ok (.iaload, 1) := by decide +kernel
theorem dX1_way_89 : decode cX1_way 89 = .ok (.aload_n 0, 1) := by decide +kernel
theorem dX1_way_90 : decode cX1_way 90 = .ok (.getfield 20, 3) := by decide +kernel
theorem dX1_way_93 : decode cX1_way 93 = .ok (.iload 4, 2) := by decide +kernel
theorem dX1_way_95 : decode cX1_way 95 = .ok (.iaload, 1) := by decide +kernel
theorem dX1_way_96 : decode cX1_way 96 = .ok (.iadd, 1) := by decide +kernel
theorem dX1_way_97 : decode cX1_way 97 = .ok (.istore 5, 2) := by decide +kernel
theorem dX1_way_99 : decode cX1_way 99 = .ok (.aload_n 0, 1) := by decide +kernel
theorem dX1_way_100 : decode cX1_way 100 = .ok (.getfield 26, 3) := by decide +kernel
theorem dX1_way_103 : decode cX1_way 103 = .ok (.aload_n 0, 1) := by decide +kernel
end
section
set_option maxRecDepth 100000
theorem dX1_way_104 : decode cX1_way 104 = .ok (.getfield 17, 3) := by decide +kernel
theorem dX1_way_107 : decode cX1_way 107 = .ok (.iload 4, 2) := by decide +kernel
theorem dX1_way_109 : decode cX1_way 109 = .ok (.iaload, 1) := by decide +kernel
theorem dX1_way_110 : decode cX1_way 110 = .ok (.iaload, 1) := by decide +kernel
theorem dX1_way_111 : decode cX1_way 111 = .ok (.aload_n 0, 1) := by decide +kernel
theorem dX1_way_112 : decode cX1_way 112 = .ok (.getfield 20, 3) := by decide +kernel
theorem dX1_way_115 : decode cX1_way 115 = .ok (.iload 4, 2) := by decide +kernel
theorem dX1_way_117 : decode cX1_way 117 = .ok (.iaload, 1) := by decide +kernel
theorem dX1_way_118 : decode cX1_way 118 = .ok (.iadd, 1) := by decide +kernel
theorem dX1_way_119 : decode cX1_way 119 = .ok (.istore 6, 2) := by decide +kernel
theorem dX1_way_121 : decode cX1_way 121 = .ok (.aload_n 0, 1) := by decide +kernel
theorem dX1_way_122 : decode cX1_way 122 = .ok (.getfield 26, 3) := by decide +kernel
theorem dX1_way_125 : decode cX1_way 125 = .ok (.aload_n 0, 1) := by decide +kernel
theorem dX1_way_126 : decode cX1_way 126 = .ok (.getfield 17, 3) := by decide +kernel
theorem dX1_way_129 : decode cX1_way 129 = .ok (.iload 4, 2) := by decide +kernel
theorem dX1_way_131 : decode cX1_way 131 = .ok (.iaload, 1) := by decide +kernel
theorem dX1_way_132 : decode cX1_way 132 = .ok (.iload 5, 2) := by decide +kernel
theorem dX1_way_134 : decode cX1_way 134 = .ok (.aload_n 0, 1) := by decide +kernel
theorem dX1_way_135 : decode cX1_way 135 = .ok (.getfield 26, 3) := by decide +kernel
theorem dX1_way_138 : decode cX1_way 138 = .ok (.aload_n 0, 1) := by decide +kernel
theorem dX1_way_139 : decode cX1_way 139 = .ok (.getfield 17, 3) := by decide +kernel
theorem dX1_way_142 : decode cX1_way 142 = .ok (.iload 4, 2) := by decide +kernel
theorem dX1_way_144 : decode cX1_way 144 = .ok (.iaload, 1) := by decide +kernel
theorem dX1_way_145 : decode cX1_way 145 = .ok (.iaload, 1) := by decide +kernel
theorem dX1_way_146 : decode cX1_way 146 = .ok (.if_icmp .ge 8, 3) := by decide +kernel
theorem dX1_way_149 : decode cX1_way 149 = .ok (.iload 5, 2) := by decide +kernel
theorem dX1_way_151 : decode cX1_way 151 = .ok (.goto 15, 3) := by decide +kernel
theorem dX1_way_154 : decode cX1_way 154 = .ok (.aload_n 0, 1) := by decide +kernel
theorem dX1_way_155 : decode cX1_way 155 = .ok (.getfield 26, 3) := by decide +kernel
theorem dX1_way_158 : decode cX1_way 158 = .ok (.aload_n 0, 1) := by decide +kernel
theorem dX1_way_159 : decode cX1_way 159 = .ok (.getfield 17, 3) := by decide +kernel
theorem dX1_way_162 : decode cX1_way 162 = .ok (.iload 4, 2) := by decide +kernel
theorem dX1_way_164 : decode cX1_way 164 = .ok (.iaload, 1) := by decide +kernel
theorem dX1_way_165 : decode cX1_way 165 = .ok (.iaload, 1) := by decide +kernel
theorem dX1_way_166 : decode cX1_way 166 = .ok (.iastore, 1) := by decide +kernel
theorem dX1_way_167 : decode cX1_way 167 = .ok (.aload_n 0, 1) := by decide +kernel
theorem dX1_way_168 : decode cX1_way 168 = .ok (.getfield 26, 3) := by decide +kernel
theorem dX1_way_171 : decode cX1_way 171 = .ok (.aload_n 0, 1) := by decide +kernel
theorem dX1_way_172 : decode cX1_way 172 = .ok (.getfield 13, 3) := by decide +kernel
theorem dX1_way_175 : decode cX1_way 175 = .ok (.iload 4, 2) := by decide +kernel
theorem dX1_way_177 : decode cX1_way 177 = .ok (.iaload, 1) := by decide +kernel
theorem dX1_way_178 : decode cX1_way 178 = .ok (.iload 6, 2) := by decide +kernel
theorem dX1_way_180 : decode cX1_way 180 = .ok (.aload_n 0, 1) := by decide +kernel
theorem dX1_way_181 : decode cX1_way 181 = .ok (.getfield 26, 3) := by decide +kernel
theorem dX1_way_184 : decode cX1_way 184 = .ok (.aload_n 0, 1) := by decide +kernel
theorem dX1_way_185 : decode cX1_way 185 = .ok (.getfield 13, 3) := by decide +kernel
theorem dX1_way_188 : decode cX1_way 188 = .ok (.iload 4, 2) := by decide +kernel
theorem dX1_way_190 : decode cX1_way 190 = .ok (.iaload, 1) := by decide +kernel
theorem dX1_way_191 : decode cX1_way 191 = .ok (.iaload, 1) := by decide +kernel
theorem dX1_way_192 : decode cX1_way 192 = .ok (.if_icmp .ge 8, 3) := by decide +kernel
theorem dX1_way_195 : decode cX1_way 195 = .ok (.iload 6, 2) := by decide +kernel
theorem dX1_way_197 : decode cX1_way 197 = .ok (.goto 15, 3) := by decide +kernel
theorem dX1_way_200 : decode cX1_way 200 = .ok (.aload_n 0, 1) := by decide +kernel
theorem dX1_way_201 : decode cX1_way 201 = .ok (.getfield 26, 3) := by decide +kernel
theorem dX1_way_204 : decode cX1_way 204 = .ok (.aload_n 0, 1) := by decide +kernel
theorem dX1_way_205 : decode cX1_way 205 = .ok (.getfield 13, 3) := by decide +kernel
theorem dX1_way_208 : decode cX1_way 208 = .ok (.iload 4, 2) := by decide +kernel
theorem dX1_way_210 : decode cX1_way 210 = .ok (.iaload, 1) := by decide +kernel
theorem dX1_way_211 : decode cX1_way 211 = .ok (.iaload, 1) := by decide +kernel
theorem dX1_way_212 : decode cX1_way 212 = .ok (.iastore, 1) := by decide +kernel
theorem dX1_way_213 : decode cX1_way 213 = .ok (.iinc 4 1, 3) := by decide +kernel
theorem dX1_way_216 : decode cX1_way 216 = .ok (.goto (-156), 3) := by decide +kernel
theorem dX1_way_219 : decode cX1_way 219 = .ok (.iinc 3 1, 3) := by decide +kernel
theorem dX1_way_222 : decode cX1_way 222 = .ok (.goto (-171), 3) := by decide +kernel
theorem dX1_way_225 : decode cX1_way 225 = .ok (.aload_n 0, 1) := by decide +kernel
theorem dX1_way_226 : decode cX1_way 226 = .ok (.getfield 26, 3) := by decide +kernel
theorem dX1_way_229 : decode cX1_way 229 = .ok (.iload_n 2, 1) := by decide +kernel
theorem dX1_way_230 : decode cX1_way 230 = .ok (.iaload, 1) := by decide +kernel
theorem dX1_way_231 : decode cX1_way 231 = .ok (.ldc 61, 2) := by decide +kernel
theorem dX1_way_233 : decode cX1_way 233 = .ok (.if_icmp .ge 12, 3) := by decide +kernel
theorem dX1_way_236 : decode cX1_way 236 = .ok (.aload_n 0, 1) := by decide +kernel
theorem dX1_way_237 : decode cX1_way 237 = .ok (.getfield 26, 3) := by decide +kernel
theorem dX1_way_240 : decode cX1_way 240 = .ok (.iload_n 2, 1) := by decide +kernel
theorem dX1_way_241 : decode cX1_way 241 = .ok (.iaload, 1) := by decide +kernel
theorem dX1_way_242 : decode cX1_way 242 = .ok (.goto 4, 3) := by decide +kernel
theorem dX1_way_245 : decode cX1_way 245 = .ok (.iconst (-1), 1) := by decide +kernel
theorem dX1_way_246 : decode cX1_way 246 = .ok (.ireturn, 1) := by decide +kernel
theorem dX1_walkLength_0 : decode cX1_walkLength 0 = .ok (.aload_n 0, 1) := by decide +kernel
theorem dX1_walkLength_1 : decode cX1_walkLength 1 = .ok (.invokevirtual 65, 3) := by decide +kernel
theorem dX1_walkLength_4 : decode cX1_walkLength 4 = .ok (.istore_n 1, 1) := by decide +kernel
theorem dX1_walkLength_5 : decode cX1_walkLength 5 = .ok (.aload_n 0, 1) := by decide +kernel
theorem dX1_walkLength_6 : decode cX1_walkLength 6 = .ok (.invokevirtual 36, 3) := by decide +kernel
theorem dX1_walkLength_9 : decode cX1_walkLength 9 = .ok (.istore_n 2, 1) := by decide +kernel
theorem dX1_walkLength_10 : decode cX1_walkLength 10 = .ok (.iload_n 1, 1) := by decide +kernel
theorem dX1_walkLength_11 : decode cX1_walkLength 11 = .ok (.ifCond .lt 10, 3) := by decide +kernel
theorem dX1_walkLength_14 : decode cX1_walkLength 14 = .ok (.aload_n 0, 1) := by decide +kernel
theorem dX1_walkLength_15 : decode cX1_walkLength 15 = .ok (.invokevirtual 68, 3) := by decide +kernel
theorem dX1_walkLength_18 : decode cX1_walkLength 18 = .ok (.ifCond .ne 7, 3) := by decide +kernel
theorem dX1_walkLength_21 : decode cX1_walkLength 21 = .ok (.iconst (-1), 1) := by decide +kernel
theorem dX1_walkLength_22 : decode cX1_walkLength 22 = .ok (.goto 14, 3) := by decide +kernel
theorem dX1_walkLength_25 : decode cX1_walkLength 25 = .ok (.aload_n 0, 1) := by decide +kernel
theorem dX1_walkLength_26 : decode cX1_walkLength 26 = .ok (.iload_n 2, 1) := by decide +kernel
theorem dX1_walkLength_27 : decode cX1_walkLength 27 = .ok (.invokevirtual 58, 3) := by decide +kernel
theorem dX1_walkLength_30 : decode cX1_walkLength 30 = .ok (.aload_n 0, 1) := by decide +kernel
theorem dX1_walkLength_31 : decode cX1_walkLength 31 = .ok (.iload_n 1, 1) := by decide +kernel
theorem dX1_walkLength_32 : decode cX1_walkLength 32 = .ok (.invokevirtual 58, 3) := by decide +kernel
theorem dX1_walkLength_35 : decode cX1_walkLength 35 = .ok (.iadd, 1) := by decide +kernel
theorem dX1_walkLength_36 : decode cX1_walkLength 36 = .ok (.ireturn, 1) := by decide +kernel
theorem dX1_walkAt_0 : decode cX1_walkAt 0 = .ok (.aload_n 0, 1) := by decide +kernel
theorem dX1_walkAt_1 : decode cX1_walkAt 1 = .ok (.invokevirtual 36, 3) := by decide +kernel
theorem dX1_walkAt_4 : decode cX1_walkAt 4 = .ok (.istore_n 3, 1) := by decide +kernel
theorem dX1_walkAt_5 : decode cX1_walkAt 5 = .ok (.aload_n 0, 1) := by decide +kernel
theorem dX1_walkAt_6 : decode cX1_walkAt 6 = .ok (.invokevirtual 65, 3) := by decide +kernel
theorem dX1_walkAt_9 : decode cX1_walkAt 9 = .ok (.istore 4, 2) := by decide +kernel
theorem dX1_walkAt_11 : decode cX1_walkAt 11 = .ok (.aload_n 0, 1) := by decide +kernel
theorem dX1_walkAt_12 : decode cX1_walkAt 12 = .ok (.invokevirtual 75, 3) := by decide +kernel
theorem dX1_walkAt_15 : decode cX1_walkAt 15 = .ok (.ifCond .lt 21, 3) := by decide +kernel
theorem dX1_walkAt_18 : decode cX1_walkAt 18 = .ok (.aload_n 0, 1) := by decide +kernel
theorem dX1_walkAt_19 : decode cX1_walkAt 19 = .ok (.iload_n 1, 1) := by decide +kernel
theorem dX1_walkAt_20 : decode cX1_walkAt 20 = .ok (.invokevirtual 29, 3) := by decide +kernel
theorem dX1_walkAt_23 : decode cX1_walkAt 23 = .ok (.ifCond .eq 13, 3) := by decide +kernel
theorem dX1_walkAt_26 : decode cX1_walkAt 26 = .ok (.iload_n 2, 1) := by decide +kernel
theorem dX1_walkAt_27 : decode cX1_walkAt 27 = .ok (.ifCond .lt 9, 3) := by decide +kernel
theorem dX1_walkAt_30 : decode cX1_walkAt 30 = .ok (.iload_n 2, 1) := by decide +kernel
theorem dX1_walkAt_31 : decode cX1_walkAt 31 = .ok (.bipush 20, 2) := by decide +kernel
theorem dX1_walkAt_33 : decode cX1_walkAt 33 = .ok (.if_icmp .lt 5, 3) := by decide +kernel
theorem dX1_walkAt_36 : decode cX1_walkAt 36 = .ok (.iconst (-1), 1) := by decide +kernel
theorem dX1_walkAt_37 : decode cX1_walkAt 37 = .ok (.ireturn, 1) := by decide +kernel
theorem dX1_walkAt_38 : decode cX1_walkAt 38 = .ok (.iconst 0, 1) := by decide +kernel
theorem dX1_walkAt_39 : decode cX1_walkAt 39 = .ok (.istore 5, 2) := by decide +kernel
theorem dX1_walkAt_41 : decode cX1_walkAt 41 = .ok (.iload 5, 2) := by decide +kernel
theorem dX1_walkAt_43 : decode cX1_walkAt 43 = .ok (.bipush 10, 2) := by decide +kernel
theorem dX1_walkAt_45 : decode cX1_walkAt 45 = .ok (.if_icmp .ge 30, 3) := by decide +kernel
theorem dX1_walkAt_48 : decode cX1_walkAt 48 = .ok (.aload_n 0, 1) := by decide +kernel
theorem dX1_walkAt_49 : decode cX1_walkAt 49 = .ok (.getfield 23, 3) := by decide +kernel
theorem dX1_walkAt_52 : decode cX1_walkAt 52 = .ok (.iload 5, 2) := by decide +kernel
theorem dX1_walkAt_54 : decode cX1_walkAt 54 = .ok (.iload_n 3, 1) := by decide +kernel
theorem dX1_walkAt_55 : decode cX1_walkAt 55 = .ok (.iload 5, 2) := by decide +kernel
theorem dX1_walkAt_57 : decode cX1_walkAt 57 = .ok (.ishr, 1) := by decide +kernel
theorem dX1_walkAt_58 : decode cX1_walkAt 58 = .ok (.iconst 1, 1) := by decide +kernel
theorem dX1_walkAt_59 : decode cX1_walkAt 59 = .ok (.iand, 1) := by decide +kernel
theorem dX1_walkAt_60 : decode cX1_walkAt 60 = .ok (.iload 4, 2) := by decide +kernel
theorem dX1_walkAt_62 : decode cX1_walkAt 62 = .ok (.iload 5, 2) := by decide +kernel
theorem dX1_walkAt_64 : decode cX1_walkAt 64 = .ok (.ishr, 1) := by decide +kernel
theorem dX1_walkAt_65 : decode cX1_walkAt 65 = .ok (.iconst 1, 1) := by decide +kernel
theorem dX1_walkAt_66 : decode cX1_walkAt 66 = .ok (.iand, 1) := by decide +kernel
theorem dX1_walkAt_67 : decode cX1_walkAt 67 = .ok (.iadd, 1) := by decide +kernel
theorem dX1_walkAt_68 : decode cX1_walkAt 68 = .ok (.iastore, 1) := by decide +kernel
theorem dX1_walkAt_69 : decode cX1_walkAt 69 = .ok (.iinc 5 1, 3) := by decide +kernel
theorem dX1_walkAt_72 : decode cX1_walkAt 72 = .ok (.goto (-31), 3) := by decide +kernel
theorem dX1_walkAt_75 : decode cX1_walkAt 75 = .ok (.iload_n 1, 1) := by decide +kernel
theorem dX1_walkAt_76 : decode cX1_walkAt 76 = .ok (.istore 5, 2) := by decide +kernel
theorem dX1_walkAt_78 : decode cX1_walkAt 78 = .ok (.iconst 0, 1) := by decide +kernel
theorem dX1_walkAt_79 : decode cX1_walkAt 79 = .ok (.istore 6, 2) := by decide +kernel
theorem dX1_walkAt_81 : decode cX1_walkAt 81 = .ok (.iload 6, 2) := by decide +kernel
theorem dX1_walkAt_83 : decode cX1_walkAt 83 = .ok (.iload_n 2, 1) := by decide +kernel
theorem dX1_walkAt_84 : decode cX1_walkAt 84 = .ok (.if_icmp .gt 62, 3) := by decide +kernel
theorem dX1_walkAt_87 : decode cX1_walkAt 87 = .ok (.aload_n 0, 1) := by decide +kernel
theorem dX1_walkAt_88 : decode cX1_walkAt 88 = .ok (.iload 5, 2) := by decide +kernel
theorem dX1_walkAt_90 : decode cX1_walkAt 90 = .ok (.invokevirtual 78, 3) := by decide +kernel
theorem dX1_walkAt_93 : decode cX1_walkAt 93 = .ok (.istore 7, 2) := by decide +kernel
theorem dX1_walkAt_95 : decode cX1_walkAt 95 = .ok (.iload 7, 2) := by decide +kernel
theorem dX1_walkAt_97 : decode cX1_walkAt 97 = .ok (.ifCond .lt 9, 3) := by decide +kernel
theorem dX1_walkAt_100 : decode cX1_walkAt 100 = .ok (.iload 6, 2) := by decide +kernel
theorem dX1_walkAt_102 : decode cX1_walkAt 102 = .ok (.iload_n 2, 1) := by decide +kernel
theorem dX1_walkAt_103 : decode cX1_walkAt 103 = .ok (.if_icmp .ne 6, 3) := by decide +kernel
theorem dX1_walkAt_106 : decode cX1_walkAt 106 = .ok (.iload 7, 2) := by decide +kernel
theorem dX1_walkAt_108 : decode cX1_walkAt 108 = .ok (.ireturn, 1) := by decide +kernel
theorem dX1_walkAt_109 : decode cX1_walkAt 109 = .ok (.aload_n 0, 1) := by decide +kernel
theorem dX1_walkAt_110 : decode cX1_walkAt 110 = .ok (.getfield 13, 3) := by decide +kernel
theorem dX1_walkAt_113 : decode cX1_walkAt 113 = .ok (.iload 7, 2) := by decide +kernel
theorem dX1_walkAt_115 : decode cX1_walkAt 115 = .ok (.iaload, 1) := by decide +kernel
theorem dX1_walkAt_116 : decode cX1_walkAt 116 = .ok (.iload 5, 2) := by decide +kernel
theorem dX1_walkAt_118 : decode cX1_walkAt 118 = .ok (.if_icmp .ne 13, 3) := by decide +kernel
theorem dX1_walkAt_121 : decode cX1_walkAt 121 = .ok (.aload_n 0, 1) := by decide +kernel
theorem dX1_walkAt_122 : decode cX1_walkAt 122 = .ok (.getfield 17, 3) := by decide +kernel
theorem dX1_walkAt_125 : decode cX1_walkAt 125 = .ok (.iload 7, 2) := by decide +kernel
theorem dX1_walkAt_127 : decode cX1_walkAt 127 = .ok (.iaload, 1) := by decide +kernel
theorem dX1_walkAt_128 : decode cX1_walkAt 128 = .ok (.goto 10, 3) := by decide +kernel
theorem dX1_walkAt_131 : decode cX1_walkAt 131 = .ok (.aload_n 0, 1) := by decide +kernel
theorem dX1_walkAt_132 : decode cX1_walkAt 132 = .ok (.getfield 13, 3) := by decide +kernel
theorem dX1_walkAt_135 : decode cX1_walkAt 135 = .ok (.iload 7, 2) := by decide +kernel
theorem dX1_walkAt_137 : decode cX1_walkAt 137 = .ok (.iaload, 1) := by decide +kernel
theorem dX1_walkAt_138 : decode cX1_walkAt 138 = .ok (.istore 5, 2) := by decide +kernel
theorem dX1_walkAt_140 : decode cX1_walkAt 140 = .ok (.iinc 6 1, 3) := by decide +kernel
theorem dX1_walkAt_143 : decode cX1_walkAt 143 = .ok (.goto (-62), 3) := by decide +kernel
theorem dX1_walkAt_146 : decode cX1_walkAt 146 = .ok (.iconst (-1), 1) := by decide +kernel
theorem dX1_walkAt_147 : decode cX1_walkAt 147 = .ok (.ireturn, 1) := by decide +kernel
theorem dX1_nextStreet_0 : decode cX1_nextStreet 0 = .ok (.iconst 0, 1) := by decide +kernel
theorem dX1_nextStreet_1 : decode cX1_nextStreet 1 = .ok (.istore_n 2, 1) := by decide +kernel
theorem dX1_nextStreet_2 : decode cX1_nextStreet 2 = .ok (.iload_n 2, 1) := by decide +kernel
theorem dX1_nextStreet_3 : decode cX1_nextStreet 3 = .ok (.bipush 10, 2) := by decide +kernel
theorem dX1_nextStreet_5 : decode cX1_nextStreet 5 = .ok (.if_icmp .ge 102, 3) := by decide +kernel
theorem dX1_nextStreet_8 : decode cX1_nextStreet 8 = .ok (.aload_n 0, 1) := by decide +kernel
theorem dX1_nextStreet_9 : decode cX1_nextStreet 9 = .ok (.getfield 23, 3) := by decide +kernel
theorem dX1_nextStreet_12 : decode cX1_nextStreet 12 = .ok (.iload_n 2, 1) := by decide +kernel
theorem dX1_nextStreet_13 : decode cX1_nextStreet 13 = .ok (.iaload, 1) := by decide +kernel
theorem dX1_nextStreet_14 : decode cX1_nextStreet 14 = .ok (.ifCond .le 87, 3) := by decide +kernel
theorem dX1_nextStreet_17 : decode cX1_nextStreet 17 = .ok (.aload_n 0, 1) := by decide +kernel
theorem dX1_nextStreet_18 : decode cX1_nextStreet 18 = .ok (.getfield 13, 3) := by decide +kernel
theorem dX1_nextStreet_21 : decode cX1_nextStreet 21 = .ok (.iload_n 2, 1) := by decide +kernel
theorem dX1_nextStreet_22 : decode cX1_nextStreet 22 = .ok (.iaload, 1) := by decide +kernel
theorem dX1_nextStreet_23 : decode cX1_nextStreet 23 = .ok (.iload_n 1, 1) := by decide +kernel
theorem dX1_nextStreet_24 : decode cX1_nextStreet 24 = .ok (.if_icmp .eq 13, 3) := by decide +kernel
theorem dX1_nextStreet_27 : decode cX1_nextStreet 27 = .ok (.aload_n 0, 1) := by decide +kernel
theorem dX1_nextStreet_28 : decode cX1_nextStreet 28 = .ok (.getfield 17, 3) := by decide +kernel
theorem dX1_nextStreet_31 : decode cX1_nextStreet 31 = .ok (.iload_n 2, 1) := by decide +kernel
theorem dX1_nextStreet_32 : decode cX1_nextStreet 32 = .ok (.iaload, 1) := by decide +kernel
theorem dX1_nextStreet_33 : decode cX1_nextStreet 33 = .ok (.iload_n 1, 1) := by decide +kernel
theorem dX1_nextStreet_34 : decode cX1_nextStreet 34 = .ok (.if_icmp .ne 67, 3) := by decide +kernel
theorem dX1_nextStreet_37 : decode cX1_nextStreet 37 = .ok (.aload_n 0, 1) := by decide +kernel
theorem dX1_nextStreet_38 : decode cX1_nextStreet 38 = .ok (.getfield 23, 3) := by decide +kernel
theorem dX1_nextStreet_41 : decode cX1_nextStreet 41 = .ok (.iload_n 2, 1) := by decide +kernel
theorem dX1_nextStreet_42 : decode cX1_nextStreet 42 = .ok (.dup2, 1) := by decide +kernel
theorem dX1_nextStreet_43 : decode cX1_nextStreet 43 = .ok (.iaload, 1) := by decide +kernel
theorem dX1_nextStreet_44 : decode cX1_nextStreet 44 = .ok (.iconst 1, 1) := by decide +kernel
theorem dX1_nextStreet_45 : decode cX1_nextStreet 45 = .ok (.isub, 1) := by decide +kernel
theorem dX1_nextStreet_46 : decode cX1_nextStreet 46 = .ok (.iastore, 1) := by decide +kernel
theorem dX1_nextStreet_47 : decode cX1_nextStreet 47 = .ok (.aload_n 0, 1) := by decide +kernel
theorem dX1_nextStreet_48 : decode cX1_nextStreet 48 = .ok (.getfield 13, 3) := by decide +kernel
theorem dX1_nextStreet_51 : decode cX1_nextStreet 51 = .ok (.iload_n 2, 1) := by decide +kernel
theorem dX1_nextStreet_52 : decode cX1_nextStreet 52 = .ok (.iaload, 1) := by decide +kernel
theorem dX1_nextStreet_53 : decode cX1_nextStreet 53 = .ok (.iload_n 1, 1) := by decide +kernel
theorem dX1_nextStreet_54 : decode cX1_nextStreet 54 = .ok (.if_icmp .ne 12, 3) := by decide +kernel
theorem dX1_nextStreet_57 : decode cX1_nextStreet 57 = .ok (.aload_n 0, 1) := by decide +kernel
theorem dX1_nextStreet_58 : decode cX1_nextStreet 58 = .ok (.getfield 17, 3) := by decide +kernel
theorem dX1_nextStreet_61 : decode cX1_nextStreet 61 = .ok (.iload_n 2, 1) := by decide +kernel
theorem dX1_nextStreet_62 : decode cX1_nextStreet 62 = .ok (.iaload, 1) := by decide +kernel
theorem dX1_nextStreet_63 : decode cX1_nextStreet 63 = .ok (.goto 9, 3) := by decide +kernel
theorem dX1_nextStreet_66 : decode cX1_nextStreet 66 = .ok (.aload_n 0, 1) := by decide +kernel
theorem dX1_nextStreet_67 : decode cX1_nextStreet 67 = .ok (.getfield 13, 3) := by decide +kernel
theorem dX1_nextStreet_70 : decode cX1_nextStreet 70 = .ok (.iload_n 2, 1) := by decide +kernel
theorem dX1_nextStreet_71 : decode cX1_nextStreet 71 = .ok (.iaload, 1) := by decide +kernel
theorem dX1_nextStreet_72 : decode cX1_nextStreet 72 = .ok (.istore_n 3, 1) := by decide +kernel
theorem dX1_nextStreet_73 : decode cX1_nextStreet 73 = .ok (.aload_n 0, 1) := by decide +kernel
theorem dX1_nextStreet_74 : decode cX1_nextStreet 74 = .ok (.invokevirtual 72, 3) := by decide +kernel
theorem dX1_nextStreet_77 : decode cX1_nextStreet 77 = .ok (.istore 4, 2) := by decide +kernel
theorem dX1_nextStreet_79 : decode cX1_nextStreet 79 = .ok (.aload_n 0, 1) := by decide +kernel
theorem dX1_nextStreet_80 : decode cX1_nextStreet 80 = .ok (.iload_n 3, 1) := by decide +kernel
theorem dX1_nextStreet_81 : decode cX1_nextStreet 81 = .ok (.iload 4, 2) := by decide +kernel
theorem dX1_nextStreet_83 : decode cX1_nextStreet 83 = .ok (.invokevirtual 48, 3) := by decide +kernel
theorem dX1_nextStreet_86 : decode cX1_nextStreet 86 = .ok (.ifCond .eq 5, 3) := by decide +kernel
theorem dX1_nextStreet_89 : decode cX1_nextStreet 89 = .ok (.iload_n 2, 1) := by decide +kernel
theorem dX1_nextStreet_90 : decode cX1_nextStreet 90 = .ok (.ireturn, 1) := by decide +kernel
theorem dX1_nextStreet_91 : decode cX1_nextStreet 91 = .ok (.aload_n 0, 1) := by decide +kernel
theorem dX1_nextStreet_92 : decode cX1_nextStreet 92 = .ok (.getfield 23, 3) := by decide +kernel
theorem dX1_nextStreet_95 : decode cX1_nextStreet 95 = .ok (.iload_n 2, 1) := by decide +kernel
theorem dX1_nextStreet_96 : decode cX1_nextStreet 96 = .ok (.dup2, 1) := by decide +kernel
theorem dX1_nextStreet_97 : decode cX1_nextStreet 97 = .ok (.iaload, 1) := by decide +kernel
theorem dX1_nextStreet_98 : decode cX1_nextStreet 98 = .ok (.iconst 1, 1) := by decide +kernel
theorem dX1_nextStreet_99 : decode cX1_nextStreet 99 = .ok (.iadd, 1) := by decide +kernel
theorem dX1_nextStreet_100 : decode cX1_nextStreet 100 = .ok (.iastore, 1) := by decide +kernel
theorem dX1_nextStreet_101 : decode cX1_nextStreet 101 = .ok (.iinc 2 1, 3) := by decide +kernel
theorem dX1_nextStreet_104 : decode cX1_nextStreet 104 = .ok (.goto (-102), 3) := by decide +kernel
theorem dX1_nextStreet_107 : decode cX1_nextStreet 107 = .ok (.iconst (-1), 1) := by decide +kernel
theorem dX1_nextStreet_108 : decode cX1_nextStreet 108 = .ok (.ireturn, 1) := by decide +kernel
theorem dX1_rest_0 : decode cX1_rest 0 = .ok (.iconst 0, 1) := by decide +kernel
theorem dX1_rest_1 : decode cX1_rest 1 = .ok (.istore_n 1, 1) := by decide +kernel
theorem dX1_rest_2 : decode cX1_rest 2 = .ok (.iconst 0, 1) := by decide +kernel
theorem dX1_rest_3 : decode cX1_rest 3 = .ok (.istore_n 2, 1) := by decide +kernel
theorem dX1_rest_4 : decode cX1_rest 4 = .ok (.iload_n 2, 1) := by decide +kernel
theorem dX1_rest_5 : decode cX1_rest 5 = .ok (.bipush 10, 2) := by decide +kernel
theorem dX1_rest_7 : decode cX1_rest 7 = .ok (.if_icmp .ge 28, 3) := by decide +kernel
theorem dX1_rest_10 : decode cX1_rest 10 = .ok (.iload_n 1, 1) := by decide +kernel
theorem dX1_rest_11 : decode cX1_rest 11 = .ok (.aload_n 0, 1) := by decide +kernel
theorem dX1_rest_12 : decode cX1_rest 12 = .ok (.getfield 23, 3) := by decide +kernel
theorem dX1_rest_15 : decode cX1_rest 15 = .ok (.iload_n 2, 1) := by decide +kernel
theorem dX1_rest_16 : decode cX1_rest 16 = .ok (.iaload, 1) := by decide +kernel
theorem dX1_rest_17 : decode cX1_rest 17 = .ok (.ifCond .le 9, 3) := by decide +kernel
theorem dX1_rest_20 : decode cX1_rest 20 = .ok (.iconst 1, 1) := by decide +kernel
theorem dX1_rest_21 : decode cX1_rest 21 = .ok (.iload_n 2, 1) := by decide +kernel
theorem dX1_rest_22 : decode cX1_rest 22 = .ok (.ishl, 1) := by decide +kernel
theorem dX1_rest_23 : decode cX1_rest 23 = .ok (.goto 4, 3) := by decide +kernel
theorem dX1_rest_26 : decode cX1_rest 26 = .ok (.iconst 0, 1) := by decide +kernel
theorem dX1_rest_27 : decode cX1_rest 27 = .ok (.ior, 1) := by decide +kernel
theorem dX1_rest_28 : decode cX1_rest 28 = .ok (.istore_n 1, 1) := by decide +kernel
theorem dX1_rest_29 : decode cX1_rest 29 = .ok (.iinc 2 1, 3) := by decide +kernel
theorem dX1_rest_32 : decode cX1_rest 32 = .ok (.goto (-28), 3) := by decide +kernel
theorem dX1_rest_35 : decode cX1_rest 35 = .ok (.iload_n 1, 1) := by decide +kernel
theorem dX1_rest_36 : decode cX1_rest 36 = .ok (.ireturn, 1) := by decide +kernel
end
section
set_option maxRecDepth 100000
/-! the law's own entry -/
abbrev cL_law : ByteArray := code
theorem dL_law_0 : decode cL_law 0 = .ok (.new 7, 3) := by decide +kernel
theorem dL_law_3 : decode cL_law 3 = .ok (.dup, 1) := by decide +kernel
theorem dL_law_4 : decode cL_law 4 = .ok (.invokespecial 9, 3) := by decide +kernel
theorem dL_law_7 : decode cL_law 7 = .ok (.astore_n 1, 1) := by decide +kernel
theorem dL_law_8 : decode cL_law 8 = .ok (.new 10, 3) := by decide +kernel
theorem dL_law_11 : decode cL_law 11 = .ok (.dup, 1) := by decide +kernel
theorem dL_law_12 : decode cL_law 12 = .ok (.invokespecial 12, 3) := by decide +kernel
theorem dL_law_15 : decode cL_law 15 = .ok (.astore_n 2, 1) := by decide +kernel
theorem dL_law_16 : decode cL_law 16 = .ok (.iconst 0, 1) := by decide +kernel
theorem dL_law_17 : decode cL_law 17 = .ok (.istore_n 3, 1) := by decide +kernel
theorem dL_law_18 : decode cL_law 18 = .ok (.iload_n 3, 1) := by decide +kernel
theorem dL_law_19 : decode cL_law 19 = .ok (.aload_n 0, 1) := by decide +kernel
theorem dL_law_20 : decode cL_law 20 = .ok (.arraylength, 1) := by decide +kernel
theorem dL_law_21 : decode cL_law 21 = .ok (.iconst 4, 1) := by decide +kernel
theorem dL_law_22 : decode cL_law 22 = .ok (.isub, 1) := by decide +kernel
theorem dL_law_23 : decode cL_law 23 = .ok (.if_icmp .gt 372, 3) := by decide +kernel
theorem dL_law_26 : decode cL_law 26 = .ok (.aload_n 0, 1) := by decide +kernel
theorem dL_law_27 : decode cL_law 27 = .ok (.iload_n 3, 1) := by decide +kernel
theorem dL_law_28 : decode cL_law 28 = .ok (.iaload, 1) := by decide +kernel
theorem dL_law_29 : decode cL_law 29 = .ok (.bipush 15, 2) := by decide +kernel
theorem dL_law_31 : decode cL_law 31 = .ok (.iand, 1) := by decide +kernel
theorem dL_law_32 : decode cL_law 32 = .ok (.tableswitch 357 0 12 #[68, 111, 134, 167, 180, 193, 206, 219, 232, 255, 278, 311, 324], 68) := by decide +kernel
theorem dL_law_100 : decode cL_law 100 = .ok (.aload_n 1, 1) := by decide +kernel
theorem dL_law_101 : decode cL_law 101 = .ok (.aload_n 0, 1) := by decide +kernel
theorem dL_law_102 : decode cL_law 102 = .ok (.iload_n 3, 1) := by decide +kernel
theorem dL_law_103 : decode cL_law 103 = .ok (.iconst 1, 1) := by decide +kernel
theorem dL_law_104 : decode cL_law 104 = .ok (.iadd, 1) := by decide +kernel
theorem dL_law_105 : decode cL_law 105 = .ok (.iaload, 1) := by decide +kernel
theorem dL_law_106 : decode cL_law 106 = .ok (.aload_n 0, 1) := by decide +kernel
theorem dL_law_107 : decode cL_law 107 = .ok (.iload_n 3, 1) := by decide +kernel
theorem dL_law_108 : decode cL_law 108 = .ok (.iconst 2, 1) := by decide +kernel
theorem dL_law_109 : decode cL_law 109 = .ok (.iadd, 1) := by decide +kernel
theorem dL_law_110 : decode cL_law 110 = .ok (.iaload, 1) := by decide +kernel
theorem dL_law_111 : decode cL_law 111 = .ok (.aload_n 0, 1) := by decide +kernel
theorem dL_law_112 : decode cL_law 112 = .ok (.iload_n 3, 1) := by decide +kernel
theorem dL_law_113 : decode cL_law 113 = .ok (.iconst 3, 1) := by decide +kernel
theorem dL_law_114 : decode cL_law 114 = .ok (.iadd, 1) := by decide +kernel
theorem dL_law_115 : decode cL_law 115 = .ok (.iaload, 1) := by decide +kernel
theorem dL_law_116 : decode cL_law 116 = .ok (.invokevirtual 13, 3) := by decide +kernel
theorem dL_law_119 : decode cL_law 119 = .ok (.aload_n 2, 1) := by decide +kernel
theorem dL_law_120 : decode cL_law 120 = .ok (.aload_n 0, 1) := by decide +kernel
theorem dL_law_121 : decode cL_law 121 = .ok (.iload_n 3, 1) := by decide +kernel
theorem dL_law_122 : decode cL_law 122 = .ok (.iconst 1, 1) := by decide +kernel
theorem dL_law_123 : decode cL_law 123 = .ok (.iadd, 1) := by decide +kernel
theorem dL_law_124 : decode cL_law 124 = .ok (.iaload, 1) := by decide +kernel
theorem dL_law_125 : decode cL_law 125 = .ok (.aload_n 0, 1) := by decide +kernel
theorem dL_law_126 : decode cL_law 126 = .ok (.iload_n 3, 1) := by decide +kernel
theorem dL_law_127 : decode cL_law 127 = .ok (.iconst 2, 1) := by decide +kernel
theorem dL_law_128 : decode cL_law 128 = .ok (.iadd, 1) := by decide +kernel
theorem dL_law_129 : decode cL_law 129 = .ok (.iaload, 1) := by decide +kernel
theorem dL_law_130 : decode cL_law 130 = .ok (.aload_n 0, 1) := by decide +kernel
theorem dL_law_131 : decode cL_law 131 = .ok (.iload_n 3, 1) := by decide +kernel
theorem dL_law_132 : decode cL_law 132 = .ok (.iconst 3, 1) := by decide +kernel
theorem dL_law_133 : decode cL_law 133 = .ok (.iadd, 1) := by decide +kernel
theorem dL_law_134 : decode cL_law 134 = .ok (.iaload, 1) := by decide +kernel
theorem dL_law_135 : decode cL_law 135 = .ok (.invokevirtual 17, 3) := by decide +kernel
theorem dL_law_138 : decode cL_law 138 = .ok (.if_icmp .eq 251, 3) := by decide +kernel
theorem dL_law_141 : decode cL_law 141 = .ok (.iconst 0, 1) := by decide +kernel
theorem dL_law_142 : decode cL_law 142 = .ok (.ireturn, 1) := by decide +kernel
theorem dL_law_143 : decode cL_law 143 = .ok (.aload_n 1, 1) := by decide +kernel
theorem dL_law_144 : decode cL_law 144 = .ok (.aload_n 0, 1) := by decide +kernel
theorem dL_law_145 : decode cL_law 145 = .ok (.iload_n 3, 1) := by decide +kernel
theorem dL_law_146 : decode cL_law 146 = .ok (.iconst 1, 1) := by decide +kernel
theorem dL_law_147 : decode cL_law 147 = .ok (.iadd, 1) := by decide +kernel
theorem dL_law_148 : decode cL_law 148 = .ok (.iaload, 1) := by decide +kernel
theorem dL_law_149 : decode cL_law 149 = .ok (.invokevirtual 18, 3) := by decide +kernel
theorem dL_law_152 : decode cL_law 152 = .ok (.aload_n 2, 1) := by decide +kernel
theorem dL_law_153 : decode cL_law 153 = .ok (.aload_n 0, 1) := by decide +kernel
theorem dL_law_154 : decode cL_law 154 = .ok (.iload_n 3, 1) := by decide +kernel
theorem dL_law_155 : decode cL_law 155 = .ok (.iconst 1, 1) := by decide +kernel
theorem dL_law_156 : decode cL_law 156 = .ok (.iadd, 1) := by decide +kernel
theorem dL_law_157 : decode cL_law 157 = .ok (.iaload, 1) := by decide +kernel
theorem dL_law_158 : decode cL_law 158 = .ok (.invokevirtual 22, 3) := by decide +kernel
theorem dL_law_161 : decode cL_law 161 = .ok (.if_icmp .eq 228, 3) := by decide +kernel
theorem dL_law_164 : decode cL_law 164 = .ok (.iconst 0, 1) := by decide +kernel
theorem dL_law_165 : decode cL_law 165 = .ok (.ireturn, 1) := by decide +kernel
theorem dL_law_166 : decode cL_law 166 = .ok (.aload_n 1, 1) := by decide +kernel
theorem dL_law_167 : decode cL_law 167 = .ok (.aload_n 0, 1) := by decide +kernel
theorem dL_law_168 : decode cL_law 168 = .ok (.iload_n 3, 1) := by decide +kernel
theorem dL_law_169 : decode cL_law 169 = .ok (.iconst 1, 1) := by decide +kernel
theorem dL_law_170 : decode cL_law 170 = .ok (.iadd, 1) := by decide +kernel
theorem dL_law_171 : decode cL_law 171 = .ok (.iaload, 1) := by decide +kernel
theorem dL_law_172 : decode cL_law 172 = .ok (.aload_n 0, 1) := by decide +kernel
theorem dL_law_173 : decode cL_law 173 = .ok (.iload_n 3, 1) := by decide +kernel
theorem dL_law_174 : decode cL_law 174 = .ok (.iconst 2, 1) := by decide +kernel
theorem dL_law_175 : decode cL_law 175 = .ok (.iadd, 1) := by decide +kernel
theorem dL_law_176 : decode cL_law 176 = .ok (.iaload, 1) := by decide +kernel
theorem dL_law_177 : decode cL_law 177 = .ok (.invokevirtual 23, 3) := by decide +kernel
theorem dL_law_180 : decode cL_law 180 = .ok (.aload_n 2, 1) := by decide +kernel
theorem dL_law_181 : decode cL_law 181 = .ok (.aload_n 0, 1) := by decide +kernel
theorem dL_law_182 : decode cL_law 182 = .ok (.iload_n 3, 1) := by decide +kernel
theorem dL_law_183 : decode cL_law 183 = .ok (.iconst 1, 1) := by decide +kernel
theorem dL_law_184 : decode cL_law 184 = .ok (.iadd, 1) := by decide +kernel
theorem dL_law_185 : decode cL_law 185 = .ok (.iaload, 1) := by decide +kernel
theorem dL_law_186 : decode cL_law 186 = .ok (.aload_n 0, 1) := by decide +kernel
theorem dL_law_187 : decode cL_law 187 = .ok (.iload_n 3, 1) := by decide +kernel
theorem dL_law_188 : decode cL_law 188 = .ok (.iconst 2, 1) := by decide +kernel
theorem dL_law_189 : decode cL_law 189 = .ok (.iadd, 1) := by decide +kernel
theorem dL_law_190 : decode cL_law 190 = .ok (.iaload, 1) := by decide +kernel
theorem dL_law_191 : decode cL_law 191 = .ok (.invokevirtual 27, 3) := by decide +kernel
theorem dL_law_194 : decode cL_law 194 = .ok (.if_icmp .eq 195, 3) := by decide +kernel
theorem dL_law_197 : decode cL_law 197 = .ok (.iconst 0, 1) := by decide +kernel
theorem dL_law_198 : decode cL_law 198 = .ok (.ireturn, 1) := by decide +kernel
theorem dL_law_199 : decode cL_law 199 = .ok (.aload_n 1, 1) := by decide +kernel
theorem dL_law_200 : decode cL_law 200 = .ok (.invokevirtual 28, 3) := by decide +kernel
theorem dL_law_203 : decode cL_law 203 = .ok (.aload_n 2, 1) := by decide +kernel
theorem dL_law_204 : decode cL_law 204 = .ok (.invokevirtual 32, 3) := by decide +kernel
theorem dL_law_207 : decode cL_law 207 = .ok (.if_icmp .eq 182, 3) := by decide +kernel
theorem dL_law_210 : decode cL_law 210 = .ok (.iconst 0, 1) := by decide +kernel
theorem dL_law_211 : decode cL_law 211 = .ok (.ireturn, 1) := by decide +kernel
theorem dL_law_212 : decode cL_law 212 = .ok (.aload_n 1, 1) := by decide +kernel
theorem dL_law_213 : decode cL_law 213 = .ok (.invokevirtual 33, 3) := by decide +kernel
theorem dL_law_216 : decode cL_law 216 = .ok (.aload_n 2, 1) := by decide +kernel
theorem dL_law_217 : decode cL_law 217 = .ok (.invokevirtual 36, 3) := by decide +kernel
theorem dL_law_220 : decode cL_law 220 = .ok (.if_icmp .eq 169, 3) := by decide +kernel
theorem dL_law_223 : decode cL_law 223 = .ok (.iconst 0, 1) := by decide +kernel
theorem dL_law_224 : decode cL_law 224 = .ok (.ireturn, 1) := by decide +kernel
theorem dL_law_225 : decode cL_law 225 = .ok (.aload_n 1, 1) := by decide +kernel
theorem dL_law_226 : decode cL_law 226 = .ok (.invokevirtual 37, 3) := by decide +kernel
theorem dL_law_229 : decode cL_law 229 = .ok (.aload_n 2, 1) := by decide +kernel
theorem dL_law_230 : decode cL_law 230 = .ok (.invokevirtual 41, 3) := by decide +kernel
theorem dL_law_233 : decode cL_law 233 = .ok (.if_icmp .eq 156, 3) := by decide +kernel
theorem dL_law_236 : decode cL_law 236 = .ok (.iconst 0, 1) := by decide +kernel
theorem dL_law_237 : decode cL_law 237 = .ok (.ireturn, 1) := by decide +kernel
theorem dL_law_238 : decode cL_law 238 = .ok (.aload_n 1, 1) := by decide +kernel
theorem dL_law_239 : decode cL_law 239 = .ok (.invokevirtual 42, 3) := by decide +kernel
theorem dL_law_242 : decode cL_law 242 = .ok (.aload_n 2, 1) := by decide +kernel
theorem dL_law_243 : decode cL_law 243 = .ok (.invokevirtual 45, 3) := by decide +kernel
theorem dL_law_246 : decode cL_law 246 = .ok (.if_icmp .eq 143, 3) := by decide +kernel
theorem dL_law_249 : decode cL_law 249 = .ok (.iconst 0, 1) := by decide +kernel
theorem dL_law_250 : decode cL_law 250 = .ok (.ireturn, 1) := by decide +kernel
theorem dL_law_251 : decode cL_law 251 = .ok (.aload_n 1, 1) := by decide +kernel
theorem dL_law_252 : decode cL_law 252 = .ok (.invokevirtual 46, 3) := by decide +kernel
theorem dL_law_255 : decode cL_law 255 = .ok (.aload_n 2, 1) := by decide +kernel
theorem dL_law_256 : decode cL_law 256 = .ok (.invokevirtual 49, 3) := by decide +kernel
theorem dL_law_259 : decode cL_law 259 = .ok (.if_icmp .eq 130, 3) := by decide +kernel
theorem dL_law_262 : decode cL_law 262 = .ok (.iconst 0, 1) := by decide +kernel
theorem dL_law_263 : decode cL_law 263 = .ok (.ireturn, 1) := by decide +kernel
theorem dL_law_264 : decode cL_law 264 = .ok (.aload_n 1, 1) := by decide +kernel
theorem dL_law_265 : decode cL_law 265 = .ok (.aload_n 0, 1) := by decide +kernel
theorem dL_law_266 : decode cL_law 266 = .ok (.iload_n 3, 1) := by decide +kernel
theorem dL_law_267 : decode cL_law 267 = .ok (.iconst 1, 1) := by decide +kernel
theorem dL_law_268 : decode cL_law 268 = .ok (.iadd, 1) := by decide +kernel
theorem dL_law_269 : decode cL_law 269 = .ok (.iaload, 1) := by decide +kernel
theorem dL_law_270 : decode cL_law 270 = .ok (.invokevirtual 50, 3) := by decide +kernel
theorem dL_law_273 : decode cL_law 273 = .ok (.aload_n 2, 1) := by decide +kernel
theorem dL_law_274 : decode cL_law 274 = .ok (.aload_n 0, 1) := by decide +kernel
theorem dL_law_275 : decode cL_law 275 = .ok (.iload_n 3, 1) := by decide +kernel
theorem dL_law_276 : decode cL_law 276 = .ok (.iconst 1, 1) := by decide +kernel
theorem dL_law_277 : decode cL_law 277 = .ok (.iadd, 1) := by decide +kernel
theorem dL_law_278 : decode cL_law 278 = .ok (.iaload, 1) := by decide +kernel
theorem dL_law_279 : decode cL_law 279 = .ok (.invokevirtual 54, 3) := by decide +kernel
theorem dL_law_282 : decode cL_law 282 = .ok (.if_icmp .eq 107, 3) := by decide +kernel
theorem dL_law_285 : decode cL_law 285 = .ok (.iconst 0, 1) := by decide +kernel
theorem dL_law_286 : decode cL_law 286 = .ok (.ireturn, 1) := by decide +kernel
theorem dL_law_287 : decode cL_law 287 = .ok (.aload_n 1, 1) := by decide +kernel
theorem dL_law_288 : decode cL_law 288 = .ok (.aload_n 0, 1) := by decide +kernel
theorem dL_law_289 : decode cL_law 289 = .ok (.iload_n 3, 1) := by decide +kernel
theorem dL_law_290 : decode cL_law 290 = .ok (.iconst 1, 1) := by decide +kernel
theorem dL_law_291 : decode cL_law 291 = .ok (.iadd, 1) := by decide +kernel
theorem dL_law_292 : decode cL_law 292 = .ok (.iaload, 1) := by decide +kernel
theorem dL_law_293 : decode cL_law 293 = .ok (.invokevirtual 55, 3) := by decide +kernel
theorem dL_law_296 : decode cL_law 296 = .ok (.aload_n 2, 1) := by decide +kernel
theorem dL_law_297 : decode cL_law 297 = .ok (.aload_n 0, 1) := by decide +kernel
theorem dL_law_298 : decode cL_law 298 = .ok (.iload_n 3, 1) := by decide +kernel
theorem dL_law_299 : decode cL_law 299 = .ok (.iconst 1, 1) := by decide +kernel
theorem dL_law_300 : decode cL_law 300 = .ok (.iadd, 1) := by decide +kernel
theorem dL_law_301 : decode cL_law 301 = .ok (.iaload, 1) := by decide +kernel
theorem dL_law_302 : decode cL_law 302 = .ok (.invokevirtual 58, 3) := by decide +kernel
theorem dL_law_305 : decode cL_law 305 = .ok (.if_icmp .eq 84, 3) := by decide +kernel
theorem dL_law_308 : decode cL_law 308 = .ok (.iconst 0, 1) := by decide +kernel
theorem dL_law_309 : decode cL_law 309 = .ok (.ireturn, 1) := by decide +kernel
theorem dL_law_310 : decode cL_law 310 = .ok (.aload_n 1, 1) := by decide +kernel
theorem dL_law_311 : decode cL_law 311 = .ok (.aload_n 0, 1) := by decide +kernel
theorem dL_law_312 : decode cL_law 312 = .ok (.iload_n 3, 1) := by decide +kernel
theorem dL_law_313 : decode cL_law 313 = .ok (.iconst 1, 1) := by decide +kernel
theorem dL_law_314 : decode cL_law 314 = .ok (.iadd, 1) := by decide +kernel
theorem dL_law_315 : decode cL_law 315 = .ok (.iaload, 1) := by decide +kernel
theorem dL_law_316 : decode cL_law 316 = .ok (.aload_n 0, 1) := by decide +kernel
theorem dL_law_317 : decode cL_law 317 = .ok (.iload_n 3, 1) := by decide +kernel
theorem dL_law_318 : decode cL_law 318 = .ok (.iconst 2, 1) := by decide +kernel
theorem dL_law_319 : decode cL_law 319 = .ok (.iadd, 1) := by decide +kernel
theorem dL_law_320 : decode cL_law 320 = .ok (.iaload, 1) := by decide +kernel
theorem dL_law_321 : decode cL_law 321 = .ok (.invokevirtual 59, 3) := by decide +kernel
theorem dL_law_324 : decode cL_law 324 = .ok (.aload_n 2, 1) := by decide +kernel
theorem dL_law_325 : decode cL_law 325 = .ok (.aload_n 0, 1) := by decide +kernel
theorem dL_law_326 : decode cL_law 326 = .ok (.iload_n 3, 1) := by decide +kernel
theorem dL_law_327 : decode cL_law 327 = .ok (.iconst 1, 1) := by decide +kernel
theorem dL_law_328 : decode cL_law 328 = .ok (.iadd, 1) := by decide +kernel
theorem dL_law_329 : decode cL_law 329 = .ok (.iaload, 1) := by decide +kernel
theorem dL_law_330 : decode cL_law 330 = .ok (.aload_n 0, 1) := by decide +kernel
theorem dL_law_331 : decode cL_law 331 = .ok (.iload_n 3, 1) := by decide +kernel
theorem dL_law_332 : decode cL_law 332 = .ok (.iconst 2, 1) := by decide +kernel
theorem dL_law_333 : decode cL_law 333 = .ok (.iadd, 1) := by decide +kernel
theorem dL_law_334 : decode cL_law 334 = .ok (.iaload, 1) := by decide +kernel
theorem dL_law_335 : decode cL_law 335 = .ok (.invokevirtual 63, 3) := by decide +kernel
theorem dL_law_338 : decode cL_law 338 = .ok (.if_icmp .eq 51, 3) := by decide +kernel
theorem dL_law_341 : decode cL_law 341 = .ok (.iconst 0, 1) := by decide +kernel
theorem dL_law_342 : decode cL_law 342 = .ok (.ireturn, 1) := by decide +kernel
theorem dL_law_343 : decode cL_law 343 = .ok (.aload_n 1, 1) := by decide +kernel
theorem dL_law_344 : decode cL_law 344 = .ok (.invokevirtual 64, 3) := by decide +kernel
theorem dL_law_347 : decode cL_law 347 = .ok (.aload_n 2, 1) := by decide +kernel
theorem dL_law_348 : decode cL_law 348 = .ok (.invokevirtual 67, 3) := by decide +kernel
theorem dL_law_351 : decode cL_law 351 = .ok (.if_icmp .eq 38, 3) := by decide +kernel
theorem dL_law_354 : decode cL_law 354 = .ok (.iconst 0, 1) := by decide +kernel
theorem dL_law_355 : decode cL_law 355 = .ok (.ireturn, 1) := by decide +kernel
theorem dL_law_356 : decode cL_law 356 = .ok (.aload_n 1, 1) := by decide +kernel
theorem dL_law_357 : decode cL_law 357 = .ok (.aload_n 0, 1) := by decide +kernel
theorem dL_law_358 : decode cL_law 358 = .ok (.iload_n 3, 1) := by decide +kernel
theorem dL_law_359 : decode cL_law 359 = .ok (.iconst 1, 1) := by decide +kernel
theorem dL_law_360 : decode cL_law 360 = .ok (.iadd, 1) := by decide +kernel
theorem dL_law_361 : decode cL_law 361 = .ok (.iaload, 1) := by decide +kernel
theorem dL_law_362 : decode cL_law 362 = .ok (.aload_n 0, 1) := by decide +kernel
theorem dL_law_363 : decode cL_law 363 = .ok (.iload_n 3, 1) := by decide +kernel
theorem dL_law_364 : decode cL_law 364 = .ok (.iconst 2, 1) := by decide +kernel
theorem dL_law_365 : decode cL_law 365 = .ok (.iadd, 1) := by decide +kernel
theorem dL_law_366 : decode cL_law 366 = .ok (.iaload, 1) := by decide +kernel
theorem dL_law_367 : decode cL_law 367 = .ok (.invokevirtual 68, 3) := by decide +kernel
theorem dL_law_370 : decode cL_law 370 = .ok (.aload_n 2, 1) := by decide +kernel
theorem dL_law_371 : decode cL_law 371 = .ok (.aload_n 0, 1) := by decide +kernel
theorem dL_law_372 : decode cL_law 372 = .ok (.iload_n 3, 1) := by decide +kernel
theorem dL_law_373 : decode cL_law 373 = .ok (.iconst 1, 1) := by decide +kernel
theorem dL_law_374 : decode cL_law 374 = .ok (.iadd, 1) := by decide +kernel
theorem dL_law_375 : decode cL_law 375 = .ok (.iaload, 1) := by decide +kernel
theorem dL_law_376 : decode cL_law 376 = .ok (.aload_n 0, 1) := by decide +kernel
theorem dL_law_377 : decode cL_law 377 = .ok (.iload_n 3, 1) := by decide +kernel
theorem dL_law_378 : decode cL_law 378 = .ok (.iconst 2, 1) := by decide +kernel
theorem dL_law_379 : decode cL_law 379 = .ok (.iadd, 1) := by decide +kernel
theorem dL_law_380 : decode cL_law 380 = .ok (.iaload, 1) := by decide +kernel
theorem dL_law_381 : decode cL_law 381 = .ok (.invokevirtual 71, 3) := by decide +kernel
theorem dL_law_384 : decode cL_law 384 = .ok (.if_icmp .eq 5, 3) := by decide +kernel
theorem dL_law_387 : decode cL_law 387 = .ok (.iconst 0, 1) := by decide +kernel
theorem dL_law_388 : decode cL_law 388 = .ok (.ireturn, 1) := by decide +kernel
theorem dL_law_389 : decode cL_law 389 = .ok (.iinc 3 4, 3) := by decide +kernel
theorem dL_law_392 : decode cL_law 392 = .ok (.goto (-374), 3) := by decide +kernel
theorem dL_law_395 : decode cL_law 395 = .ok (.iconst 1, 1) := by decide +kernel
theorem dL_law_396 : decode cL_law 396 = .ok (.ireturn, 1) := by decide +kernel
end
section
/-! PLAIN LAWS, no program in sight: sets of streets as bit masks, the corners at which an odd number of them ends, their length -/
def sw_sub (P S : Nat) : Prop := ∀ i, P.testBit i = true → S.testBit i = true
/-- the corners at which an odd number of the streets of S (of the first n) ends -/
def sw_od (a b : Nat → Nat) (S : Nat) : Nat → Nat
  | 0 => 0
  | n + 1 => if S.testBit n = true then sw_od a b S n ^^^ (2 ^ a n ^^^ 2 ^ b n) else sw_od a b S n
/-- the length of S (of its first n streets) -/
def sw_ln (l : Nat → Nat) (S : Nat) : Nat → Nat
  | 0 => 0
  | n + 1 => sw_ln l S n + (if S.testBit n = true then l n else 0)
theorem sw_sub_refl (S : Nat) : sw_sub S S := fun _ h => h
theorem sw_sub_trans {P Q S : Nat} (h1 : sw_sub P Q) (h2 : sw_sub Q S) : sw_sub P S := fun i h => h2 i (h1 i h)
theorem sw_sub_zero (S : Nat) : sw_sub 0 S := fun i h => by simp at h
theorem sw_sub_xor {P Q S : Nat} (h1 : sw_sub P S) (h2 : sw_sub Q S) : sw_sub (P ^^^ Q) S := by
  intro i h
  rw [Nat.testBit_xor] at h
  cases hp : P.testBit i with
  | true => exact h1 i hp
  | false =>
    rw [hp, Bool.false_xor] at h
    exact h2 i h
theorem sw_sub_one {S s : Nat} (h : S.testBit s = true) : sw_sub (2 ^ s) S := by
  intro i hi
  rw [Nat.testBit_two_pow] at hi
  have : s = i := by simpa using hi
  rw [← this]
  exact h
theorem sw_od_bit (a b : Nat → Nat) (S n i : Nat) : (sw_od a b S (n + 1)).testBit i = ((sw_od a b S n).testBit i ^^ (S.testBit n && (2 ^ a n ^^^ 2 ^ b n).testBit i)) := by
  cases h : S.testBit n with
  | true => simp only [sw_od, h, if_true, Nat.testBit_xor, Bool.true_and]
  | false => simp [sw_od, h]
theorem sw_od_xorb (a b : Nat → Nat) (S T : Nat) (i : Nat) : ∀ n, (sw_od a b (S ^^^ T) n).testBit i = ((sw_od a b S n).testBit i ^^ (sw_od a b T n).testBit i)
  | 0 => by simp [sw_od]
  | n + 1 => by
    rw [sw_od_bit, sw_od_bit, sw_od_bit, sw_od_xorb a b S T i n, Nat.testBit_xor S T n]
    generalize (sw_od a b S n).testBit i = u
    generalize (sw_od a b T n).testBit i = v
    generalize S.testBit n = x1
    generalize T.testBit n = y1
    generalize (2 ^ a n ^^^ 2 ^ b n).testBit i = z
    revert u v x1 y1 z
    decide
theorem sw_od_xor (a b : Nat → Nat) (S T n : Nat) : sw_od a b (S ^^^ T) n = sw_od a b S n ^^^ sw_od a b T n := by
  apply Nat.eq_of_testBit_eq
  intro i
  rw [sw_od_xorb, Nat.testBit_xor]
theorem sw_od_zero (a b : Nat → Nat) : ∀ n, sw_od a b 0 n = 0
  | 0 => rfl
  | n + 1 => by simp [sw_od, sw_od_zero a b n]
theorem sw_od_oneb (a b : Nat → Nat) (s i : Nat) : ∀ n, (sw_od a b (2 ^ s) n).testBit i = (decide (s < n) && (2 ^ a s ^^^ 2 ^ b s).testBit i)
  | 0 => by simp [sw_od]
  | n + 1 => by
    rw [sw_od_bit, sw_od_oneb a b s i n, Nat.testBit_two_pow]
    rcases Nat.lt_trichotomy s n with h | h | h
    · rw [decide_eq_true h, decide_eq_false (Nat.ne_of_lt h), decide_eq_true (Nat.lt_succ_of_lt h)]
      simp
    · subst h
      rw [decide_eq_false (Nat.lt_irrefl s), decide_eq_true rfl, decide_eq_true (Nat.lt_succ_self s)]
      simp
    · rw [decide_eq_false (by omega : ¬ s < n), decide_eq_false (by omega : ¬ s = n), decide_eq_false (by omega : ¬ s < n + 1)]
      simp
theorem sw_od_one (a b : Nat → Nat) {s n : Nat} (h : s < n) : sw_od a b (2 ^ s) n = 2 ^ a s ^^^ 2 ^ b s := by
  apply Nat.eq_of_testBit_eq
  intro i
  rw [sw_od_oneb, decide_eq_true h, Bool.true_and]
theorem sw_ln_xor_le (l : Nat → Nat) (S T : Nat) : ∀ n, sw_ln l (S ^^^ T) n ≤ sw_ln l S n + sw_ln l T n
  | 0 => by simp [sw_ln]
  | n + 1 => by
    have ih := sw_ln_xor_le l S T n
    simp only [sw_ln, Nat.testBit_xor]
    cases S.testBit n <;> cases T.testBit n <;> simp <;> omega
theorem sw_ln_split (l : Nat → Nat) {P S : Nat} (h : sw_sub P S) : ∀ n, sw_ln l S n = sw_ln l P n + sw_ln l (S ^^^ P) n
  | 0 => by simp [sw_ln]
  | n + 1 => by
    have ih := sw_ln_split l h n
    have hn := h n
    simp only [sw_ln, Nat.testBit_xor]
    cases hp : P.testBit n <;> cases hs : S.testBit n
    · simp; omega
    · simp; omega
    · rw [hs] at hn
      exact absurd (hn hp) (by decide)
    · simp; omega
theorem sw_ln_zero (l : Nat → Nat) : ∀ n, sw_ln l 0 n = 0
  | 0 => rfl
  | n + 1 => by simp [sw_ln, sw_ln_zero l n]
theorem sw_ln_oneI (l : Nat → Nat) (s : Nat) : ∀ n, sw_ln l (2 ^ s) n = if s < n then l s else 0
  | 0 => by simp [sw_ln]
  | n + 1 => by
    simp only [sw_ln, sw_ln_oneI l s n, Nat.testBit_two_pow]
    rcases Nat.lt_trichotomy s n with h | h | h
    · have h1 : ¬ s = n := Nat.ne_of_lt h
      simp [h, h1, Nat.lt_succ_of_lt h]
    · subst h
      simp
    · have h1 : ¬ s = n := by omega
      have h2 : ¬ s < n := by omega
      have h3 : ¬ s < n + 1 := by omega
      simp [h1, h2, h3]
theorem sw_ln_one (l : Nat → Nat) {s n : Nat} (h : s < n) : sw_ln l (2 ^ s) n = l s := by rw [sw_ln_oneI, if_pos h]
theorem sw_ln_bound {l : Nat → Nat} {B : Nat} (S : Nat) : ∀ n, (∀ s, s < n → l s ≤ B) → sw_ln l S n ≤ B * n
  | 0, _ => by simp [sw_ln]
  | n + 1, h => by
    have ih := sw_ln_bound S n (fun s hs => h s (by omega))
    have hn := h n (by omega)
    simp only [sw_ln]
    rw [Nat.mul_add, Nat.mul_one]
    split <;> omega
theorem sw_ln_sub {l : Nat → Nat} {P S : Nat} (h : sw_sub P S) (n : Nat) : sw_ln l P n ≤ sw_ln l S n := by
  rw [sw_ln_split l h n]
  exact Nat.le_add_right _ _
/-- one street taken out -/
theorem sw_ln_out (l : Nat → Nat) {S s n : Nat} (h : S.testBit s = true) (hs : s < n) : sw_ln l S n = l s + sw_ln l (S ^^^ 2 ^ s) n := by
  rw [sw_ln_split l (sw_sub_one h) n, sw_ln_one l hs]
theorem sw_od_out (a b : Nat → Nat) {S s n : Nat} (hs : s < n) : sw_od a b (S ^^^ 2 ^ s) n = sw_od a b S n ^^^ (2 ^ a s ^^^ 2 ^ b s) := by
  rw [sw_od_xor, sw_od_one a b hs]
theorem sw_edge (a b : Nat → Nat) (S v : Nat) : ∀ n, (sw_od a b S n).testBit v = true → ∃ s, s < n ∧ S.testBit s = true ∧ (2 ^ a s ^^^ 2 ^ b s).testBit v = true
  | 0, h => by simp [sw_od] at h
  | n + 1, h => by
    rw [sw_od_bit] at h
    cases h1 : (sw_od a b S n).testBit v with
    | true =>
      obtain ⟨s, h2, h3, h4⟩ := sw_edge a b S v n h1
      exact ⟨s, by omega, h3, h4⟩
    | false =>
      rw [h1, Bool.false_xor, Bool.and_eq_true] at h
      exact ⟨n, by omega, h.1, h.2⟩
theorem sw_other {u w v : Nat} (h : (2 ^ u ^^^ 2 ^ w).testBit v = true) : ∃ t, t ≠ v ∧ 2 ^ u ^^^ 2 ^ w = 2 ^ v ^^^ 2 ^ t ∧ ((u = v ∧ w = t) ∨ (w = v ∧ u = t)) := by
  rw [Nat.testBit_xor, Nat.testBit_two_pow, Nat.testBit_two_pow] at h
  by_cases h1 : u = v
  · subst h1
    refine ⟨w, ?_, rfl, Or.inl ⟨rfl, rfl⟩⟩
    intro e
    subst e
    simp at h
  · by_cases h2 : w = v
    · subst h2
      exact ⟨u, h1, Nat.xor_comm _ _, Or.inr ⟨rfl, rfl⟩⟩
    · simp [h1, h2] at h
theorem sw_pair_bit (u v i : Nat) : (2 ^ u ^^^ 2 ^ v).testBit i = (decide (u = i) ^^ decide (v = i)) := by
  rw [Nat.testBit_xor, Nat.testBit_two_pow, Nat.testBit_two_pow]
theorem sw_pair_l {u v : Nat} (h : u ≠ v) : (2 ^ u ^^^ 2 ^ v).testBit u = true := by
  rw [sw_pair_bit, decide_eq_true rfl, decide_eq_false (Ne.symm h)]
  rfl
theorem sw_pair_r {u v : Nat} (h : u ≠ v) : (2 ^ u ^^^ 2 ^ v).testBit v = true := by
  rw [sw_pair_bit, decide_eq_true rfl, decide_eq_false h]
  rfl
theorem sw_pair_n {u v i : Nat} (h1 : i ≠ u) (h2 : i ≠ v) : (2 ^ u ^^^ 2 ^ v).testBit i = false := by
  rw [sw_pair_bit, decide_eq_false (Ne.symm h1), decide_eq_false (Ne.symm h2)]
  rfl
theorem sw_x1 (x y z : Nat) : (x ^^^ y) ^^^ (x ^^^ z) = z ^^^ y := by
  apply Nat.eq_of_testBit_eq
  intro i
  simp only [Nat.testBit_xor]
  generalize x.testBit i = u
  generalize y.testBit i = v
  generalize z.testBit i = w
  revert u v w
  decide
theorem sw_x2 (x y z : Nat) : (z ^^^ y) ^^^ (x ^^^ z) = x ^^^ y := by
  apply Nat.eq_of_testBit_eq
  intro i
  simp only [Nat.testBit_xor]
  generalize x.testBit i = u
  generalize y.testBit i = v
  generalize z.testBit i = w
  revert u v w
  decide
theorem sw_x3 (x y : Nat) : (x ^^^ y) ^^^ y = x := by rw [Nat.xor_assoc, Nat.xor_self, Nat.xor_zero]
theorem sw_x4 (x y : Nat) : y ^^^ (x ^^^ y) = x := by rw [Nat.xor_comm, sw_x3]
/-- a street of S removed: fewer streets -/
theorem sw_fewer {S s : Nat} (h : S.testBit s = true) (hs : s < 10) : sw_ln (fun _ => 1) S 10 = 1 + sw_ln (fun _ => 1) (S ^^^ 2 ^ s) 10 := sw_ln_out (fun _ => 1) h hs
theorem sw_sub_out {S s : Nat} (h : S.testBit s = true) : sw_sub (S ^^^ 2 ^ s) S := sw_sub_xor (sw_sub_refl S) (sw_sub_one h)
/-- from an odd corner a way leads, along streets of S, to another one -/
theorem sw_path (a b : Nat → Nat) : ∀ (k S v : Nat), sw_ln (fun _ => 1) S 10 ≤ k → (sw_od a b S 10).testBit v = true → ∃ P c, sw_sub P S ∧ c ≠ v ∧ (sw_od a b S 10).testBit c = true ∧ sw_od a b P 10 = 2 ^ v ^^^ 2 ^ c
  | 0, S, v, hk, hv => by
    obtain ⟨s, h1, h2, -⟩ := sw_edge a b S v 10 hv
    have := sw_fewer h2 h1
    omega
  | k + 1, S, v, hk, hv => by
    obtain ⟨s, h1, h2, h3⟩ := sw_edge a b S v 10 hv
    obtain ⟨t, h4, h5, -⟩ := sw_other h3
    have hf := sw_fewer h2 h1
    cases ht : (sw_od a b S 10).testBit t with
    | true => exact ⟨2 ^ s, t, sw_sub_one h2, h4, ht, by rw [sw_od_one a b h1, h5]⟩
    | false =>
      have ho : sw_od a b (S ^^^ 2 ^ s) 10 = sw_od a b S 10 ^^^ (2 ^ v ^^^ 2 ^ t) := by rw [sw_od_out a b h1, h5]
      have ht' : (sw_od a b (S ^^^ 2 ^ s) 10).testBit t = true := by
        rw [ho, Nat.testBit_xor, ht, sw_pair_r (Ne.symm h4)]
        rfl
      obtain ⟨P, c, hP, hc, hcS, hod⟩ := sw_path a b k (S ^^^ 2 ^ s) t (by omega) ht'
      have hcv : c ≠ v := by
        intro e
        subst e
        rw [ho, Nat.testBit_xor, hv, sw_pair_l (Ne.symm h4)] at hcS
        exact absurd hcS (by decide)
      refine ⟨P ^^^ 2 ^ s, c, sw_sub_xor (sw_sub_trans hP (sw_sub_out h2)) (sw_sub_one h2), hcv, ?_, ?_⟩
      · rw [ho, Nat.testBit_xor, sw_pair_n hcv hc] at hcS
        simpa using hcS
      · rw [sw_od_out a b h1, hod, h5]
        exact sw_x2 _ _ _
/-- a function of corners that no street of the set makes jump by more than its length: nor does a set of streets that leads from u to v -/
theorem sw_lip {a b l f : Nat → Nat} {set : Nat} (h : ∀ s, s < 10 → set.testBit s = true → f (a s) ≤ f (b s) + l s ∧ f (b s) ≤ f (a s) + l s) : ∀ (k X u v : Nat), sw_ln (fun _ => 1) X 10 ≤ k → sw_sub X set → sw_od a b X 10 = 2 ^ u ^^^ 2 ^ v → f v ≤ f u + sw_ln l X 10
  | k, X, u, v, hk, hX, ho => by
    by_cases huv : u = v
    · subst huv
      exact Nat.le_add_right _ _
    · have hu : (sw_od a b X 10).testBit u = true := by rw [ho]; exact sw_pair_l huv
      obtain ⟨s, h1, h2, h3⟩ := sw_edge a b X u 10 hu
      obtain ⟨t, h4, h5, h6⟩ := sw_other h3
      have hf := sw_fewer h2 h1
      match k, hk with
      | 0, hk => omega
      | k + 1, hk =>
        have ih := sw_lip h k (X ^^^ 2 ^ s) t v (by omega) (sw_sub_trans (sw_sub_out h2) hX) (by rw [sw_od_out a b h1, ho, h5]; exact sw_x1 _ _ _)
        have hl := sw_ln_out l h2 h1
        have hs := h s h1 (hX s h2)
        rcases h6 with ⟨e1, e2⟩ | ⟨e1, e2⟩
        · rw [e1, e2] at hs
          omega
        · rw [e1, e2] at hs
          omega
/-- v is the least length of a set, out of the streets of set, that makes exactly the corners of T odd (100000 or more when there is none) -/
def sw_min (a b l : Nat → Nat) (set T v : Nat) : Prop :=
  (v < 100000 → ∃ X, sw_sub X set ∧ sw_od a b X 10 = T ∧ sw_ln l X 10 ≤ v) ∧ ∀ X, sw_sub X set → sw_od a b X 10 = T → v ≤ sw_ln l X 10
theorem sw_min_one {a b l : Nat → Nat} {set T v w : Nat} (h1 : sw_min a b l set T v) (h2 : sw_min a b l set T w) (hv : v < 100000) : v = w := by
  obtain ⟨X, x1, x2, x3⟩ := h1.1 hv
  have hw := h2.2 X x1 x2
  obtain ⟨Y, y1, y2, y3⟩ := h2.1 (by omega)
  have hv2 := h1.2 Y y1 y2
  omega
/-- either both are far, or they are the same -/
theorem sw_min_eq {a b l : Nat → Nat} {set T v w : Nat} (h1 : sw_min a b l set T v) (h2 : sw_min a b l set T w) : (v < 100000 ∧ v = w) ∨ (100000 ≤ v ∧ 100000 ≤ w) := by
  by_cases hv : v < 100000
  · exact Or.inl ⟨hv, sw_min_one h1 h2 hv⟩
  · by_cases hw : w < 100000
    · have := sw_min_one h2 h1 hw
      omega
    · omega
theorem sw_min_zero (a b l : Nat → Nat) (set : Nat) : sw_min a b l set 0 0 := ⟨fun _ => ⟨0, sw_sub_zero set, sw_od_zero a b 10, by rw [sw_ln_zero]; exact Nat.le_refl 0⟩, fun _ _ _ => Nat.zero_le _⟩
theorem sw_min_ex {a b l : Nat → Nat} (hl : ∀ s, s < 10 → l s ≤ 20) (set T : Nat) : ∃ v, v ≤ 100000 ∧ sw_min a b l set T v := by
  by_cases h : ∃ k, ∃ X, sw_sub X set ∧ sw_od a b X 10 = T ∧ sw_ln l X 10 = k
  · obtain ⟨k, ⟨X, x1, x2, x3⟩, hk⟩ := pk_least _ h
    have hb := sw_ln_bound X 10 hl
    refine ⟨k, by omega, fun _ => ⟨X, x1, x2, by omega⟩, fun Y y1 y2 => ?_⟩
    rcases Nat.lt_or_ge (sw_ln l Y 10) k with hlt | hge
    · exact absurd ⟨Y, y1, y2, rfl⟩ (hk _ hlt)
    · exact hge
  · refine ⟨100000, Nat.le_refl _, fun q => absurd q (by decide), fun Y y1 y2 => absurd ⟨_, Y, y1, y2, rfl⟩ h⟩
end
section
/-! PLAIN LAWS: the table of ways (all least ways by going through one corner after another) -/
def sw_rng (a b l : Nat → Nat) : Prop := ∀ s, s < 10 → a s < 6 ∧ b s < 6 ∧ l s ≤ 20
/-- nothing in the table is too short, a corner is 0 from itself, FAR is the most -/
def sw_wI (a b l : Nat → Nat) (set : Nat) (w : Nat → Nat) : Prop :=
  (∀ i j, i < 6 → j < 6 → w (i * 6 + j) ≤ 100000 ∧ (w (i * 6 + j) < 100000 → ∃ X, sw_sub X set ∧ sw_od a b X 10 = 2 ^ i ^^^ 2 ^ j ∧ sw_ln l X 10 ≤ w (i * 6 + j))) ∧ ∀ i, i < 6 → w (i * 6 + i) = 0
theorem sw_wI_le {a b l : Nat → Nat} {set : Nat} {w : Nat → Nat} (h : sw_wI a b l set w) {k : Nat} (hk : k < 36) : w k ≤ 100000 := by
  have h1 := (h.1 (k / 6) (k % 6) (by omega) (by omega)).1
  rw [show k / 6 * 6 + k % 6 = k by omega] at h1
  exact h1
def sw_w1 (n : Nat) (w : Nat → Nat) : Prop := ∀ j, j < n → w j = if j / 6 = j % 6 then 0 else 100000
theorem sw_w1_0 (w : Nat → Nat) : sw_w1 0 w := fun j h => absurd h (Nat.not_lt_zero j)
theorem sw_w1_s {n : Nat} {w : Nat → Nat} {v : Nat} (h : sw_w1 n w) (hv : v = if n / 6 = n % 6 then 0 else 100000) : sw_w1 (n + 1) (va_up w n v) := by
  intro j hj
  unfold va_up
  by_cases hn : j = n
  · subst hn
    rw [if_pos rfl]
    exact hv
  · rw [if_neg hn]
    exact h j (by omega)
theorem sw_w1_e {w : Nat → Nat} (a b l : Nat → Nat) (set : Nat) (h : sw_w1 36 w) : sw_wI a b l set w := by
  constructor
  · intro i j hi hj
    have h1 := h (i * 6 + j) (by omega)
    rw [show (i * 6 + j) / 6 = i by omega, show (i * 6 + j) % 6 = j by omega] at h1
    by_cases hij : i = j
    · subst hij
      rw [if_pos rfl] at h1
      rw [h1]
      exact ⟨by omega, fun _ => ⟨0, sw_sub_zero _, by rw [sw_od_zero, Nat.xor_self], by rw [sw_ln_zero]; exact Nat.le_refl 0⟩⟩
    · rw [if_neg hij] at h1
      rw [h1]
      exact ⟨Nat.le_refl _, fun q => absurd q (by decide)⟩
  · intro i hi
    have h1 := h (i * 6 + i) (by omega)
    rw [show (i * 6 + i) / 6 = i by omega, show (i * 6 + i) % 6 = i by omega, if_pos rfl] at h1
    exact h1
/-- a street shortens the way between its ends -/
def sw_sh (w : Nat → Nat) (x y len : Nat) : Nat → Nat := if len < w (x * 6 + y) then va_up w (x * 6 + y) len else w
theorem sw_sh_le (w : Nat → Nat) (x y len j : Nat) : sw_sh w x y len j ≤ w j := by
  unfold sw_sh
  split
  · unfold va_up
    split
    · subst_vars
      omega
    · exact Nat.le_refl _
  · exact Nat.le_refl _
theorem sw_sh_at (w : Nat → Nat) (x y len : Nat) : sw_sh w x y len (x * 6 + y) ≤ len := by
  unfold sw_sh
  split
  · unfold va_up
    rw [if_pos rfl]
    exact Nat.le_refl _
  · omega
theorem sw_sh_I {a b l : Nat → Nat} {set : Nat} {w : Nat → Nat} (h : sw_wI a b l set w) {x y len : Nat} (hx : x < 6) (hy : y < 6) {X : Nat} (h1 : sw_sub X set) (h2 : sw_od a b X 10 = 2 ^ x ^^^ 2 ^ y) (h3 : sw_ln l X 10 ≤ len) : sw_wI a b l set (sw_sh w x y len) := by
  unfold sw_sh
  split
  · rename_i hlt
    have hw := (h.1 x y hx hy).1
    constructor
    · intro i j hi hj
      unfold va_up
      by_cases he : i * 6 + j = x * 6 + y
      · have e1 : i = x := by omega
        have e2 : j = y := by omega
        subst e1
        subst e2
        rw [if_pos rfl]
        exact ⟨by omega, fun _ => ⟨X, h1, h2, h3⟩⟩
      · rw [if_neg he]
        exact h.1 i j hi hj
    · intro i hi
      unfold va_up
      by_cases he : i * 6 + i = x * 6 + y
      · have e1 : i = x := by omega
        have e2 : i = y := by omega
        subst e1
        subst e2
        have := h.2 i hi
        omega
      · rw [if_neg he]
        exact h.2 i hi
  · exact h
def sw_wE (a b l : Nat → Nat) (set n : Nat) (w : Nat → Nat) : Prop := ∀ t, t < n → set.testBit t = true → w (a t * 6 + b t) ≤ l t ∧ w (b t * 6 + a t) ≤ l t
theorem sw_wE_0 (a b l : Nat → Nat) (set : Nat) (w : Nat → Nat) : sw_wE a b l set 0 w := fun t h => absurd h (Nat.not_lt_zero t)
theorem sw_wE_n {a b l : Nat → Nat} {set n : Nat} {w : Nat → Nat} (h : sw_wE a b l set n w) (hn : set.testBit n = false) : sw_wE a b l set (n + 1) w := by
  intro t ht hs
  by_cases e : t = n
  · subst e
    rw [hn] at hs
    exact absurd hs (by decide)
  · exact h t (by omega) hs
/-- one street entered both ways -/
theorem sw_wE_s {a b l : Nat → Nat} {set n : Nat} {w : Nat → Nat} (hr : sw_rng a b l) (hn10 : n < 10) (hI : sw_wI a b l set w) (h : sw_wE a b l set n w) (hn : set.testBit n = true) :
    sw_wI a b l set (sw_sh (sw_sh w (a n) (b n) (l n)) (b n) (a n) (l n)) ∧ sw_wE a b l set (n + 1) (sw_sh (sw_sh w (a n) (b n) (l n)) (b n) (a n) (l n)) := by
  obtain ⟨ha, hb, -⟩ := hr n hn10
  have o1 := sw_od_one a b hn10
  have l1 := sw_ln_one l hn10
  constructor
  · exact sw_sh_I (sw_sh_I hI ha hb (sw_sub_one hn) o1 (Nat.le_of_eq l1)) hb ha (sw_sub_one hn) (by rw [o1, Nat.xor_comm]) (Nat.le_of_eq l1)
  · intro t ht hs
    have m1 : ∀ j, sw_sh (sw_sh w (a n) (b n) (l n)) (b n) (a n) (l n) j ≤ w j := fun j => Nat.le_trans (sw_sh_le _ _ _ _ _) (sw_sh_le _ _ _ _ _)
    by_cases e : t = n
    · subst e
      exact ⟨Nat.le_trans (sw_sh_le _ _ _ _ _) (sw_sh_at _ _ _ _), sw_sh_at _ _ _ _⟩
    · obtain ⟨q1, q2⟩ := h t (by omega) hs
      exact ⟨Nat.le_trans (m1 _) q1, Nat.le_trans (m1 _) q2⟩
def sw_wT (n : Nat) (w : Nat → Nat) : Prop := ∀ c, c < n → ∀ i j, i < 6 → j < 6 → w (i * 6 + j) ≤ w (i * 6 + c) + w (c * 6 + j)
theorem sw_wT_0 (w : Nat → Nat) : sw_wT 0 w := fun c h => absurd h (Nat.not_lt_zero c)
/-- within the round of corner c: n places are done -/
def sw_wS (w0 : Nat → Nat) (c n : Nat) (w : Nat → Nat) : Prop := ∀ j, j < 36 → w j = if j < n then min (w0 j) (w0 (j / 6 * 6 + c) + w0 (c * 6 + j % 6)) else w0 j
theorem sw_wS_0 (w : Nat → Nat) (c : Nat) : sw_wS w c 0 w := fun j _ => by rw [if_neg (Nat.not_lt_zero j)]
theorem sw_wS_col {w0 : Nat → Nat} {c n : Nat} {w : Nat → Nat} (h : sw_wS w0 c n w) (hc : c < 6) (hd : w0 (c * 6 + c) = 0) {x : Nat} (hx : x < 6) : w (x * 6 + c) = w0 (x * 6 + c) := by
  have h1 := h (x * 6 + c) (by omega)
  rw [show (x * 6 + c) / 6 = x by omega, show (x * 6 + c) % 6 = c by omega, hd] at h1
  rw [h1]
  split <;> omega
theorem sw_wS_row {w0 : Nat → Nat} {c n : Nat} {w : Nat → Nat} (h : sw_wS w0 c n w) (hc : c < 6) (hd : w0 (c * 6 + c) = 0) {y : Nat} (hy : y < 6) : w (c * 6 + y) = w0 (c * 6 + y) := by
  have h1 := h (c * 6 + y) (by omega)
  rw [show (c * 6 + y) / 6 = c by omega, show (c * 6 + y) % 6 = y by omega, hd] at h1
  rw [h1]
  split <;> omega
theorem sw_wS_s {w0 : Nat → Nat} {c n : Nat} {w : Nat → Nat} (h : sw_wS w0 c n w) (hc : c < 6) (hn : n < 36) (hd : w0 (c * 6 + c) = 0) :
    sw_wS w0 c (n + 1) (if w (n / 6 * 6 + c) + w (c * 6 + n % 6) < w n then va_up w n (w (n / 6 * 6 + c) + w (c * 6 + n % 6)) else w) := by
  have e1 := sw_wS_col h hc hd (x := n / 6) (by omega)
  have e2 := sw_wS_row h hc hd (y := n % 6) (by omega)
  have e3 := h n hn
  rw [if_neg (Nat.lt_irrefl n)] at e3
  intro j hj
  by_cases hjn : j = n
  · subst hjn
    rw [if_pos (Nat.lt_succ_self j)]
    split
    · unfold va_up
      rw [if_pos rfl]
      omega
    · omega
  · have h1 := h j hj
    have hl : (j < n + 1) = (j < n) := by
      apply propext
      omega
    simp only [hl]
    split
    · unfold va_up
      rw [if_neg hjn]
      exact h1
    · exact h1
theorem sw_x5 (x y z : Nat) : (x ^^^ y) ^^^ (y ^^^ z) = x ^^^ z := by
  apply Nat.eq_of_testBit_eq
  intro i
  simp only [Nat.testBit_xor]
  generalize x.testBit i = u
  generalize y.testBit i = v
  generalize z.testBit i = w
  revert u v w
  decide
theorem sw_wS_e {a b l : Nat → Nat} {set : Nat} {w0 : Nat → Nat} {c : Nat} {w : Nat → Nat} (hr : sw_rng a b l) (h : sw_wS w0 c 36 w) (hc : c < 6) (hI : sw_wI a b l set w0) (hE : sw_wE a b l set 10 w0) (hT : sw_wT c w0) :
    sw_wI a b l set w ∧ sw_wE a b l set 10 w ∧ sw_wT (c + 1) w := by
  have hd := hI.2 c hc
  have hw : ∀ i j, i < 6 → j < 6 → w (i * 6 + j) = min (w0 (i * 6 + j)) (w0 (i * 6 + c) + w0 (c * 6 + j)) := by
    intro i j hi hj
    have h1 := h (i * 6 + j) (by omega)
    rw [show (i * 6 + j) / 6 = i by omega, show (i * 6 + j) % 6 = j by omega, if_pos (by omega)] at h1
    exact h1
  refine ⟨⟨fun i j hi hj => ?_, fun i hi => ?_⟩, fun t ht hs => ?_, fun c' hc' i j hi hj => ?_⟩
  · obtain ⟨p1, p2⟩ := hI.1 i j hi hj
    obtain ⟨-, q2⟩ := hI.1 i c hi hc
    obtain ⟨-, r2⟩ := hI.1 c j hc hj
    rw [hw i j hi hj]
    refine ⟨by omega, fun hlt => ?_⟩
    by_cases hm : w0 (i * 6 + j) ≤ w0 (i * 6 + c) + w0 (c * 6 + j)
    · obtain ⟨X, x1, x2, x3⟩ := p2 (by omega)
      exact ⟨X, x1, x2, by omega⟩
    · obtain ⟨X, x1, x2, x3⟩ := q2 (by omega)
      obtain ⟨Y, y1, y2, y3⟩ := r2 (by omega)
      have hle := sw_ln_xor_le l X Y 10
      refine ⟨X ^^^ Y, sw_sub_xor x1 y1, ?_, by omega⟩
      rw [sw_od_xor, x2, y2]
      exact sw_x5 _ _ _
  · rw [hw i i hi hi, hI.2 i hi]
    exact Nat.zero_min _
  · obtain ⟨q1, q2⟩ := hE t ht hs
    obtain ⟨ha, hb, -⟩ := hr t ht
    rw [hw _ _ ha hb, hw _ _ hb ha]
    omega
  · have hc6 : c' < 6 := by omega
    rw [hw i j hi hj, hw i c' hi hc6, hw c' j hc6 hj]
    by_cases e : c' = c
    · subst e
      rw [hd]
      omega
    · have t1 := hT c' (by omega) i j hi hj
      have t2 := hT c' (by omega) c j hc hj
      have t3 := hT c' (by omega) i c hi hc
      omega
/-- the table is right -/
def sw_wF (a b l : Nat → Nat) (set : Nat) (w : Nat → Nat) : Prop := ∀ i j, i < 6 → j < 6 → w (i * 6 + j) ≤ 100000 ∧ sw_min a b l set (2 ^ i ^^^ 2 ^ j) (w (i * 6 + j))
theorem sw_wF_of {a b l : Nat → Nat} {set : Nat} {w : Nat → Nat} (hr : sw_rng a b l) (hI : sw_wI a b l set w) (hE : sw_wE a b l set 10 w) (hT : sw_wT 6 w) : sw_wF a b l set w := by
  intro i j hi hj
  refine ⟨(hI.1 i j hi hj).1, (hI.1 i j hi hj).2, fun X hX ho => ?_⟩
  have key := sw_lip (a := a) (b := b) (l := l) (f := fun v => w (i * 6 + v)) (set := set) (fun s hs hb => by
    obtain ⟨qa, qb, -⟩ := hr s hs
    obtain ⟨e1, e2⟩ := hE s hs hb
    have t1 := hT (b s) qb i (a s) hi qa
    have t2 := hT (a s) qa i (b s) hi qb
    constructor
    · show w (i * 6 + a s) ≤ w (i * 6 + b s) + l s
      omega
    · show w (i * 6 + b s) ≤ w (i * 6 + a s) + l s
      omega) (sw_ln (fun _ => 1) X 10) X i j (Nat.le_refl _) hX ho
  have hii := hI.2 i hi
  have key : w (i * 6 + j) ≤ w (i * 6 + i) + sw_ln l X 10 := key
  omega
end
section
/-! PLAIN LAWS: pairing the corners of a set by least ways is the least set of streets that makes them odd -/
/-- x without y -/
def sw_an (x y : Nat) : Nat := x ^^^ (x &&& y)
theorem sw_an_bit (x y i : Nat) : (sw_an x y).testBit i = (x.testBit i && !y.testBit i) := by
  unfold sw_an
  rw [Nat.testBit_xor, Nat.testBit_and]
  generalize x.testBit i = u
  generalize y.testBit i = v
  revert u v
  decide
theorem sw_sub_le {P S : Nat} (h : sw_sub P S) : P ≤ S := by
  have e : S &&& P = P := by
    apply Nat.eq_of_testBit_eq
    intro i
    rw [Nat.testBit_and]
    cases hp : P.testBit i with
    | false => simp
    | true => simp [h i hp]
  rw [← e]
  exact Nat.and_le_left
theorem sw_an_sub (x y : Nat) : sw_sub (sw_an x y) x := by
  intro i h
  rw [sw_an_bit, Bool.and_eq_true] at h
  exact h.1
theorem sw_an_zero {x y : Nat} : sw_an x y = 0 ↔ sw_sub x y := by
  constructor
  · intro h i hx
    have h1 := sw_an_bit x y i
    rw [h, hx] at h1
    simpa using h1
  · intro h
    apply Nat.eq_of_testBit_eq
    intro i
    rw [sw_an_bit]
    cases hx : x.testBit i with
    | false => simp
    | true => simp [h i hx]
theorem sw_ne0 {n : Nat} (h : n ≠ 0) : ∃ i, n.testBit i = true := by
  rcases Classical.em (∃ i, n.testBit i = true) with q | q
  · exact q
  · refine absurd (Nat.eq_of_testBit_eq (fun i => ?_)) h
    rw [Nat.zero_testBit]
    cases hi : n.testBit i with
    | false => rfl
    | true => exact absurd ⟨i, hi⟩ q
theorem sw_bit_lt {n k i : Nat} (h : n < 2 ^ k) (hi : n.testBit i = true) : i < k := by
  rcases Nat.lt_or_ge i k with q | q
  · exact q
  · have h1 : n < 2 ^ i := Nat.lt_of_lt_of_le h (Nat.pow_le_pow_right (by decide) q)
    rw [Nat.testBit_lt_two_pow h1] at hi
    exact absurd hi (by decide)
/-- the answer of a search of the best partner of corner low, among those below n -/
def sw_pl (w P : Nat → Nat) (mask low n r : Nat) : Prop := r ≤ 200000 ∧
  (r = 200000 ∨ ∃ c, low < c ∧ c < n ∧ mask.testBit c = true ∧ r = w (low * 6 + c) + P (sw_an (sw_an mask (2 ^ low)) (2 ^ c))) ∧
  ∀ c, low < c → c < n → mask.testBit c = true → r ≤ w (low * 6 + c) + P (sw_an (sw_an mask (2 ^ low)) (2 ^ c))
theorem sw_pl_0 (w P : Nat → Nat) (mask low n : Nat) (hn : n ≤ low + 1) : sw_pl w P mask low n 200000 := ⟨Nat.le_refl _, Or.inl rfl, fun c h1 h2 => by omega⟩
theorem sw_pl_n {w P : Nat → Nat} {mask low n r : Nat} (h : sw_pl w P mask low n r) (hn : mask.testBit n = false) : sw_pl w P mask low (n + 1) r := by
  obtain ⟨h1, h2, h3⟩ := h
  refine ⟨h1, ?_, fun c q1 q2 q3 => ?_⟩
  · rcases h2 with h2 | ⟨c, q1, q2, q3, q4⟩
    · exact Or.inl h2
    · exact Or.inr ⟨c, q1, by omega, q3, q4⟩
  · by_cases e : c = n
    · subst e
      rw [hn] at q3
      exact absurd q3 (by decide)
    · exact h3 c q1 (by omega) q3
theorem sw_pl_lt {w P : Nat → Nat} {mask low n r v : Nat} (h : sw_pl w P mask low n r) (hl : low < n) (hn : mask.testBit n = true) (hv : v = w (low * 6 + n) + P (sw_an (sw_an mask (2 ^ low)) (2 ^ n))) (hlt : v < r) : sw_pl w P mask low (n + 1) v := by
  obtain ⟨h1, h2, h3⟩ := h
  refine ⟨by omega, Or.inr ⟨n, hl, by omega, hn, hv⟩, fun c q1 q2 q3 => ?_⟩
  by_cases e : c = n
  · subst e
    exact Nat.le_of_eq hv
  · have := h3 c q1 (by omega) q3
    omega
theorem sw_pl_ge {w P : Nat → Nat} {mask low n r v : Nat} (h : sw_pl w P mask low n r) (hv : v = w (low * 6 + n) + P (sw_an (sw_an mask (2 ^ low)) (2 ^ n))) (hge : ¬ v < r) : sw_pl w P mask low (n + 1) r := by
  obtain ⟨h1, h2, h3⟩ := h
  refine ⟨h1, ?_, fun c q1 q2 q3 => ?_⟩
  · rcases h2 with h2 | ⟨c, q1, q2, q3, q4⟩
    · exact Or.inl h2
    · exact Or.inr ⟨c, q1, by omega, q3, q4⟩
  · by_cases e : c = n
    · subst e
      omega
    · exact h3 c q1 (by omega) q3
/-- what pairUp answers for mask -/
def sw_pu (w P : Nat → Nat) (mask r : Nat) : Prop := ∀ low, low < 6 → mask.testBit low = true → (∀ j, j < low → mask.testBit j = false) → sw_pl w P mask low 6 r
/-- the table of pairings up to n -/
def sw_jI (a b l : Nat → Nat) (set want n : Nat) (P : Nat → Nat) : Prop := ∀ k, k < n → sw_sub k want → sw_min a b l set k (P k) ∧ P k ≤ 200000
theorem sw_jI_1 {a b l : Nat → Nat} {set want : Nat} {P : Nat → Nat} (h : P 0 = 0) : sw_jI a b l set want 1 P := by
  intro k hk _
  have e : k = 0 := by omega
  subst e
  rw [h]
  exact ⟨sw_min_zero a b l set, by omega⟩
theorem sw_jI_n {a b l : Nat → Nat} {set want n : Nat} {P : Nat → Nat} {v : Nat} (h : sw_jI a b l set want n P) (hn : ¬ sw_sub n want) : sw_jI a b l set want (n + 1) (va_up P n v) := by
  intro k hk hs
  by_cases e : k = n
  · subst e
    exact absurd hs hn
  · unfold va_up
    rw [if_neg e]
    exact h k (by omega) hs
/-- two corners taken out of a mask -/
theorem sw_two {n low c : Nat} (h1 : n.testBit low = true) (h2 : n.testBit c = true) (h3 : c ≠ low) : sw_an (sw_an n (2 ^ low)) (2 ^ c) = n ^^^ (2 ^ low ^^^ 2 ^ c) := by
  apply Nat.eq_of_testBit_eq
  intro i
  rw [sw_an_bit, sw_an_bit, Nat.testBit_xor, sw_pair_bit, Nat.testBit_two_pow, Nat.testBit_two_pow]
  by_cases e1 : low = i
  · subst e1
    rw [h1]
    simp [h3]
  · by_cases e2 : c = i
    · subst e2
      rw [h2]
      simp [e1]
    · simp [e1, e2]
theorem sw_two_lt {n low c : Nat} (h1 : n.testBit low = true) : sw_an (sw_an n (2 ^ low)) (2 ^ c) < n := by
  have hs : sw_sub (sw_an (sw_an n (2 ^ low)) (2 ^ c)) n := sw_sub_trans (sw_an_sub _ _) (sw_an_sub _ _)
  have hle := sw_sub_le hs
  rcases Nat.lt_or_ge (sw_an (sw_an n (2 ^ low)) (2 ^ c)) n with q | q
  · exact q
  · have e : sw_an (sw_an n (2 ^ low)) (2 ^ c) = n := by omega
    have h2 := h1
    rw [← e, sw_an_bit, sw_an_bit, Nat.testBit_two_pow_self] at h2
    simp at h2
theorem sw_jI_s {a b l : Nat → Nat} {set want n r : Nat} {P w : Nat → Nat} (h : sw_jI a b l set want n P) (hn0 : 0 < n) (hn : n < 64) (hs : sw_sub n want) (hw : sw_wF a b l set w) (hr : sw_pu w (va_up P n 200000) n r) : sw_jI a b l set want (n + 1) (va_up (va_up P n 200000) n r) := by
  intro k hk hks
  by_cases e : k = n
  · subst e
    rw [show va_up (va_up P k 200000) k r k = r from if_pos rfl]
    obtain ⟨low, hl1, hl2⟩ := pk_least (fun i => k.testBit i = true) (sw_ne0 (by omega))
    have hl6 : low < 6 := sw_bit_lt (k := 6) (by omega) hl1
    have hlz : ∀ j, j < low → k.testBit j = false := fun j hj => by
      cases hb : k.testBit j with
      | false => rfl
      | true => exact absurd hb (hl2 j hj)
    obtain ⟨q1, q2, q3⟩ := hr low hl6 hl1 hlz
    have hP : ∀ c, k.testBit c = true → c ≠ low → va_up P k 200000 (sw_an (sw_an k (2 ^ low)) (2 ^ c)) = P (k ^^^ (2 ^ low ^^^ 2 ^ c)) ∧ sw_min a b l set (k ^^^ (2 ^ low ^^^ 2 ^ c)) (P (k ^^^ (2 ^ low ^^^ 2 ^ c))) := by
      intro c hc hne
      have hlt := sw_two_lt (c := c) hl1
      have hsub : sw_sub (sw_an (sw_an k (2 ^ low)) (2 ^ c)) want := sw_sub_trans (sw_sub_trans (sw_an_sub _ _) (sw_an_sub _ _)) hs
      have hm := (h _ hlt hsub).1
      rw [sw_two hl1 hc hne] at hlt hm ⊢
      refine ⟨?_, hm⟩
      unfold va_up
      rw [if_neg (Nat.ne_of_lt hlt)]
    refine ⟨⟨fun hlt => ?_, fun X hX ho => ?_⟩, q1⟩
    · rcases q2 with q2 | ⟨c, c1, c2, c3, c4⟩
      · omega
      · obtain ⟨e1, e2⟩ := hP c c3 (by omega)
        rw [e1] at c4
        obtain ⟨X, x1, x2, x3⟩ := (hw low c hl6 c2).2.1 (by omega)
        obtain ⟨Y, y1, y2, y3⟩ := e2.1 (by omega)
        have hle := sw_ln_xor_le l X Y 10
        refine ⟨X ^^^ Y, sw_sub_xor x1 y1, ?_, by omega⟩
        rw [sw_od_xor, x2, y2]
        exact sw_x4 _ _
    · obtain ⟨Q, c, z1, z2, z3, z4⟩ := sw_path a b _ X low (Nat.le_refl _) (by rw [ho]; exact hl1)
      rw [ho] at z3
      have hc6 : c < 6 := sw_bit_lt (k := 6) (by omega) z3
      have hlc : low < c := by
        rcases Nat.lt_trichotomy low c with q | q | q
        · exact q
        · exact absurd q.symm z2
        · rw [hlz c q] at z3
          exact absurd z3 (by decide)
      obtain ⟨e1, e2⟩ := hP c z3 z2
      have k1 := (hw low c hl6 hc6).2.2 Q (sw_sub_trans z1 hX) z4
      have k2 := e2.2 (X ^^^ Q) (sw_sub_xor hX (sw_sub_trans z1 hX)) (by rw [sw_od_xor, ho, z4])
      have k3 := sw_ln_split l z1 10
      have k4 := q3 c hlc hc6 z3
      rw [e1] at k4
      omega
  · unfold va_up
    rw [if_neg e, if_neg e]
    exact h k (by omega) hks
end
section
/-! PLAIN LAWS: the first extra set of the least length, found one street after another, or by trying all sets -/
def sw_q (a b : Nat → Nat) (p must never X : Nat) : Prop := sw_sub X p ∧ sw_sub must X ∧ X &&& never = 0 ∧ sw_od a b X 10 = sw_od a b p 10
/-- the set whose row of digits is number k -/
def sw_so (k : Nat) : Nat → Nat
  | 0 => 0
  | n + 1 => if k.testBit (9 - n) = true then sw_so k n ||| 2 ^ n else sw_so k n
theorem sw_so_bit (k i : Nat) : ∀ n, (sw_so k n).testBit i = (decide (i < n) && k.testBit (9 - i))
  | 0 => by simp [sw_so]
  | n + 1 => by
    have ih := sw_so_bit k i n
    rcases Nat.lt_trichotomy i n with h | h | h
    · rw [decide_eq_true h] at ih
      rw [decide_eq_true (Nat.lt_succ_of_lt h)]
      unfold sw_so
      split
      · rw [Nat.testBit_or, ih, Nat.testBit_two_pow_of_ne (by omega)]
        simp
      · exact ih
    · subst h
      rw [decide_eq_false (Nat.lt_irrefl i)] at ih
      rw [decide_eq_true (Nat.lt_succ_self i)]
      unfold sw_so
      split
      · rename_i hb
        rw [Nat.testBit_or, ih, Nat.testBit_two_pow_self, hb]
        rfl
      · rename_i hb
        rw [ih]
        cases hk : k.testBit (9 - i) with
        | false => rfl
        | true => exact absurd hk hb
    · rw [decide_eq_false (by omega : ¬ i < n)] at ih
      rw [decide_eq_false (by omega : ¬ i < n + 1)]
      unfold sw_so
      split
      · rw [Nat.testBit_or, ih, Nat.testBit_two_pow_of_ne (by omega)]
        rfl
      · exact ih
theorem sw_so_lt (k : Nat) : sw_so k 10 < 1024 := by
  refine Nat.lt_pow_two_of_testBit (n := 10) _ (fun i hi => ?_)
  rw [sw_so_bit, decide_eq_false (by omega : ¬ i < 10)]
  rfl
/-- every set has its number -/
theorem sw_so_so {Y : Nat} (h : Y < 1024) : sw_so (sw_so Y 10) 10 = Y := by
  apply Nat.eq_of_testBit_eq
  intro i
  rw [sw_so_bit, sw_so_bit]
  by_cases hi : i < 10
  · rw [decide_eq_true hi, decide_eq_true (by omega : 9 - i < 10), show 9 - (9 - i) = i by omega]
    simp
  · rw [decide_eq_false hi]
    cases hy : Y.testBit i with
    | false => rfl
    | true => exact absurd (sw_bit_lt (k := 10) (by omega) hy) hi
/-- smaller in the first digit that differs -/
theorem sw_lt_bits : ∀ (j x y : Nat), x.testBit j = false → y.testBit j = true → (∀ i, j < i → x.testBit i = y.testBit i) → x < y
  | 0, x, y, h1, h2, h3 => by
    have e : x / 2 = y / 2 := by
      apply Nat.eq_of_testBit_eq
      intro i
      rw [Nat.testBit_div_two, Nat.testBit_div_two]
      exact h3 (i + 1) (by omega)
    rw [Nat.testBit_zero] at h1 h2
    have e1 : ¬ x % 2 = 1 := by simpa using h1
    have e2 : y % 2 = 1 := by simpa using h2
    omega
  | j + 1, x, y, h1, h2, h3 => by
    have ih := sw_lt_bits j (x / 2) (y / 2) (by rw [Nat.testBit_div_two]; exact h1) (by rw [Nat.testBit_div_two]; exact h2) (fun i hi => by
      rw [Nat.testBit_div_two, Nat.testBit_div_two]
      exact h3 (i + 1) (by omega))
    omega
/-- of the sets numbered below n: none is fit, or the first of the least length -/
def sw_fi (a b l : Nat → Nat) (p must never n : Nat) (o : Option Nat) : Prop := match o with
  | none => ∀ k, k < n → ¬ sw_q a b p must never (sw_so k 10)
  | some B => ∃ kb, kb < n ∧ B = sw_so kb 10 ∧ sw_q a b p must never B ∧ (∀ k, k < n → sw_q a b p must never (sw_so k 10) → sw_ln l B 10 ≤ sw_ln l (sw_so k 10) 10) ∧ ∀ k, k < kb → sw_q a b p must never (sw_so k 10) → sw_ln l B 10 < sw_ln l (sw_so k 10) 10
theorem sw_fi_0 (a b l : Nat → Nat) (p must never : Nat) : sw_fi a b l p must never 0 none := fun k h => absurd h (Nat.not_lt_zero k)
theorem sw_fi_n {a b l : Nat → Nat} {p must never n : Nat} {o : Option Nat} (h : sw_fi a b l p must never n o) (hn : ¬ sw_q a b p must never (sw_so n 10)) : sw_fi a b l p must never (n + 1) o := by
  cases o with
  | none =>
    intro k hk
    by_cases e : k = n
    · subst e
      exact hn
    · exact h k (by omega)
  | some B =>
    obtain ⟨kb, h1, h2, h3, h4, h5⟩ := h
    refine ⟨kb, by omega, h2, h3, fun k hk hq => ?_, h5⟩
    by_cases e : k = n
    · subst e
      exact absurd hq hn
    · exact h4 k (by omega) hq
theorem sw_fi_new {a b l : Nat → Nat} {p must never n : Nat} {o : Option Nat} (h : sw_fi a b l p must never n o) (hn : sw_q a b p must never (sw_so n 10)) (ho : ∀ B, o = some B → sw_ln l (sw_so n 10) 10 < sw_ln l B 10) : sw_fi a b l p must never (n + 1) (some (sw_so n 10)) := by
  cases o with
  | none =>
    refine ⟨n, by omega, rfl, hn, fun k hk hq => ?_, fun k hk hq => absurd hq (h k hk)⟩
    by_cases e : k = n
    · subst e
      exact Nat.le_refl _
    · exact absurd hq (h k (by omega))
  | some B =>
    obtain ⟨kb, h1, h2, h3, h4, h5⟩ := h
    have hB := ho B rfl
    refine ⟨n, by omega, rfl, hn, fun k hk hq => ?_, fun k hk hq => ?_⟩
    · by_cases e : k = n
      · subst e
        exact Nat.le_refl _
      · have := h4 k (by omega) hq
        omega
    · have := h4 k hk hq
      omega
theorem sw_fi_keep {a b l : Nat → Nat} {p must never n B : Nat} (h : sw_fi a b l p must never n (some B)) (hge : ¬ sw_ln l (sw_so n 10) 10 < sw_ln l B 10) : sw_fi a b l p must never (n + 1) (some B) := by
  obtain ⟨kb, h1, h2, h3, h4, h5⟩ := h
  refine ⟨kb, by omega, h2, h3, fun k hk hq => ?_, h5⟩
  by_cases e : k = n
  · subst e
    omega
  · exact h4 k (by omega) hq
/-- all sets tried -/
theorem sw_fi_none {a b l : Nat → Nat} {p must never : Nat} (hp : p < 1024) (h : sw_fi a b l p must never 1024 none) (Y : Nat) : ¬ sw_q a b p must never Y := by
  intro hq
  have hY : Y < 1024 := Nat.lt_of_le_of_lt (sw_sub_le hq.1) hp
  have h1 := h (sw_so Y 10) (sw_so_lt Y)
  rw [sw_so_so hY] at h1
  exact h1 hq
theorem sw_fi_some {a b l : Nat → Nat} {p must never B : Nat} (hp : p < 1024) (h : sw_fi a b l p must never 1024 (some B)) : sw_q a b p must never B ∧ ∀ Y, sw_q a b p must never Y → sw_ln l B 10 ≤ sw_ln l Y 10 := by
  obtain ⟨kb, h1, h2, h3, h4, h5⟩ := h
  refine ⟨h3, fun Y hq => ?_⟩
  have hY : Y < 1024 := Nat.lt_of_le_of_lt (sw_sub_le hq.1) hp
  have h6 := h4 (sw_so Y 10) (sw_so_lt Y)
  rw [sw_so_so hY] at h6
  exact h6 hq
theorem sw_q_p (a b : Nat → Nat) (p : Nat) : sw_q a b p 0 0 p := ⟨sw_sub_refl p, sw_sub_zero p, Nat.and_zero p, rfl⟩
theorem sw_fi_ex {a b l : Nat → Nat} {p : Nat} {o : Option Nat} (hp : p < 1024) (h : sw_fi a b l p 0 0 1024 o) : ∃ B, o = some B := by
  cases o with
  | none => exact absurd (sw_q_p a b p) (sw_fi_none hp h p)
  | some B => exact ⟨B, rfl⟩
/-- extra: both ways -/
theorem sw_ex_eq {a b l : Nat → Nat} {p v B : Nat} (hl : ∀ s, s < 10 → l s ≤ 20) (hp : p < 1024) (h : sw_fi a b l p 0 0 1024 (some B)) (hv : sw_min a b l p (sw_od a b p 10) v) : v < 100000 ∧ v = sw_ln l B 10 := by
  obtain ⟨h1, h2⟩ := sw_fi_some hp h
  have hb := sw_ln_bound B 10 hl
  have h3 := hv.2 B h1.1 h1.2.2.2
  have hlt : v < 100000 := by omega
  obtain ⟨X, x1, x2, x3⟩ := hv.1 hlt
  have h4 := h2 X ⟨x1, sw_sub_zero X, Nat.and_zero X, x2⟩
  omega
theorem sw_and_one {X s : Nat} : X &&& 2 ^ s = 0 ↔ X.testBit s = false := by
  constructor
  · intro h
    have h1 := Nat.testBit_and X (2 ^ s) s
    rw [h, Nat.testBit_two_pow_self, Nat.zero_testBit, Bool.and_true] at h1
    exact h1.symm
  · intro h
    apply Nat.eq_of_testBit_eq
    intro i
    rw [Nat.testBit_and, Nat.testBit_two_pow, Nat.zero_testBit]
    by_cases e : s = i
    · subst e
      rw [h]
      rfl
    · simp [e]
theorem sw_sub_an {X p s : Nat} : sw_sub X (sw_an p (2 ^ s)) ↔ sw_sub X p ∧ X.testBit s = false := by
  constructor
  · intro h
    refine ⟨sw_sub_trans h (sw_an_sub _ _), ?_⟩
    cases hs : X.testBit s with
    | false => rfl
    | true =>
      have h1 := h s hs
      rw [sw_an_bit, Nat.testBit_two_pow_self] at h1
      simp at h1
  · intro h i hi
    rw [sw_an_bit, h.1 i hi, Nat.testBit_two_pow]
    by_cases e : s = i
    · subst e
      rw [h.2] at hi
      exact absurd hi (by decide)
    · simp [e]
/-- extraWithout: both ways -/
theorem sw_exo {a b l : Nat → Nat} {p s v : Nat} {o : Option Nat} (hl : ∀ s, s < 10 → l s ≤ 20) (hp : p < 1024) (h : sw_fi a b l p 0 (2 ^ s) 1024 o) (hv : sw_min a b l (sw_an p (2 ^ s)) (sw_od a b p 10) v) :
    (o = none → ¬ v < 100000) ∧ ∀ B, o = some B → v < 100000 ∧ v = sw_ln l B 10 := by
  constructor
  · intro e hlt
    subst e
    obtain ⟨X, x1, x2, x3⟩ := hv.1 hlt
    have h1 := sw_sub_an.mp x1
    exact sw_fi_none hp h X ⟨h1.1, sw_sub_zero X, sw_and_one.mpr h1.2, x2⟩
  · intro B e
    subst e
    obtain ⟨h1, h2⟩ := sw_fi_some hp h
    have hb := sw_ln_bound B 10 hl
    have h3 := hv.2 B (sw_sub_an.mpr ⟨h1.1, sw_and_one.mp h1.2.2.1⟩) h1.2.2.2
    have hlt : v < 100000 := by omega
    obtain ⟨X, x1, x2, x3⟩ := hv.1 hlt
    have h5 := sw_sub_an.mp x1
    have h4 := h2 X ⟨h5.1, sw_sub_zero X, sw_and_one.mpr h5.2, x2⟩
    omega
theorem sw_bit_x (X s i : Nat) : (X ^^^ 2 ^ s).testBit i = (X.testBit i ^^ decide (s = i)) := by
  rw [Nat.testBit_xor, Nat.testBit_two_pow]
/-- a street put in -/
theorem sw_in {a b l : Nat → Nat} {X s : Nat} (hs : s < 10) (hX : X.testBit s = false) : (X ^^^ 2 ^ s).testBit s = true ∧ sw_od a b (X ^^^ 2 ^ s) 10 = sw_od a b X 10 ^^^ (2 ^ a s ^^^ 2 ^ b s) ∧ sw_ln l (X ^^^ 2 ^ s) 10 = l s + sw_ln l X 10 := by
  have h1 : (X ^^^ 2 ^ s).testBit s = true := by rw [sw_bit_x, hX, decide_eq_true rfl]; rfl
  refine ⟨h1, sw_od_out a b hs, ?_⟩
  rw [sw_ln_out l h1 hs, sw_x3]
theorem sw_out_bit {X s : Nat} (hX : X.testBit s = true) : (X ^^^ 2 ^ s).testBit s = false := by rw [sw_bit_x, hX, decide_eq_true rfl]; rfl
/-- extraWith: both ways -/
theorem sw_exw {a b l : Nat → Nat} {p s v : Nat} {o : Option Nat} (hl : ∀ s, s < 10 → l s ≤ 20) (hp : p < 1024) (hs : s < 10) (hps : p.testBit s = true) (h : sw_fi a b l p (2 ^ s) 0 1024 o) (hv : sw_min a b l (sw_an p (2 ^ s)) (sw_od a b p 10 ^^^ (2 ^ a s ^^^ 2 ^ b s)) v) :
    (o = none → ¬ v < 100000) ∧ ∀ B, o = some B → v < 100000 ∧ v + l s = sw_ln l B 10 := by
  have mk : ∀ X, sw_sub X (sw_an p (2 ^ s)) → sw_od a b X 10 = sw_od a b p 10 ^^^ (2 ^ a s ^^^ 2 ^ b s) → sw_q a b p (2 ^ s) 0 (X ^^^ 2 ^ s) ∧ sw_ln l (X ^^^ 2 ^ s) 10 = l s + sw_ln l X 10 := by
    intro X x1 x2
    have h1 := sw_sub_an.mp x1
    obtain ⟨i1, i2, i3⟩ := sw_in (a := a) (b := b) (l := l) hs h1.2
    exact ⟨⟨sw_sub_xor h1.1 (sw_sub_one hps), sw_sub_one i1, Nat.and_zero _, by rw [i2, x2, sw_x3]⟩, i3⟩
  constructor
  · intro e hlt
    subst e
    obtain ⟨X, x1, x2, x3⟩ := hv.1 hlt
    exact sw_fi_none hp h _ (mk X x1 x2).1
  · intro B e
    subst e
    obtain ⟨h1, h2⟩ := sw_fi_some hp h
    have hb := sw_ln_bound B 10 hl
    have hBs : B.testBit s = true := h1.2.1 s Nat.testBit_two_pow_self
    have h3 := hv.2 (B ^^^ 2 ^ s) (sw_sub_an.mpr ⟨sw_sub_trans (sw_sub_out hBs) h1.1, sw_out_bit hBs⟩) (by rw [sw_od_out a b hs, h1.2.2.2])
    have h5 := sw_ln_out l hBs hs
    have hlt : v < 100000 := by omega
    obtain ⟨X, x1, x2, x3⟩ := hv.1 hlt
    obtain ⟨m1, m2⟩ := mk X x1 x2
    have h4 := h2 _ m1
    omega
/-- the least set, and of the least ones the first in the order of digits -/
def sw_best (a b l : Nat → Nat) (p B : Nat) : Prop := sw_sub B p ∧ sw_od a b B 10 = sw_od a b p 10 ∧ ∀ Y, sw_sub Y p → sw_od a b Y 10 = sw_od a b p 10 → sw_ln l B 10 ≤ sw_ln l Y 10 ∧
  (sw_ln l Y 10 = sw_ln l B 10 → Y = B ∨ ∃ i, i < 10 ∧ (∀ j, j < i → Y.testBit j = B.testBit j) ∧ B.testBit i = false ∧ Y.testBit i = true)
theorem sw_best_one {a b l : Nat → Nat} {p B G : Nat} (hp : p < 1024) (h : sw_fi a b l p 0 0 1024 (some B)) (hg : sw_best a b l p G) : B = G := by
  obtain ⟨g1, g2, g3⟩ := hg
  obtain ⟨f1, f2⟩ := sw_fi_some hp h
  have k1 := f2 G ⟨g1, sw_sub_zero G, Nat.and_zero G, g2⟩
  obtain ⟨k2, k3⟩ := g3 B f1.1 f1.2.2.2
  rcases k3 (by omega) with e | ⟨i, hi, i1, i2, i3⟩
  · exact e
  · exfalso
    obtain ⟨kb, h1, h2, h3, h4, h5⟩ := h
    have hG : G < 1024 := Nat.lt_of_le_of_lt (sw_sub_le g1) hp
    have bits : ∀ j, j < 10 → kb.testBit j = B.testBit (9 - j) := by
      intro j hj
      rw [h2, sw_so_bit, decide_eq_true (by omega : 9 - j < 10), show 9 - (9 - j) = j by omega]
      rfl
    have hlt : sw_so G 10 < kb := by
      refine sw_lt_bits (9 - i) _ _ ?_ ?_ (fun j hj => ?_)
      · rw [sw_so_bit, show 9 - (9 - i) = i by omega, i2]
        exact Bool.and_false _
      · rw [bits (9 - i) (by omega), show 9 - (9 - i) = i by omega, i3]
      · by_cases hj10 : j < 10
        · rw [sw_so_bit, decide_eq_true hj10, bits j hj10, i1 (9 - j) (by omega)]
          rfl
        · rw [sw_so_bit, decide_eq_false hj10]
          cases hk : kb.testBit j with
          | false => rfl
          | true => exact absurd (sw_bit_lt (k := 10) (by omega) hk) hj10
    have h6 := h5 _ hlt
    rw [sw_so_so hG] at h6
    have h7 := h6 ⟨g1, sw_sub_zero G, Nat.and_zero G, g2⟩
    omega
/-- the greedy choice, before street n -/
def sw_gi (a b l : Nat → Nat) (p n want least opn chosen : Nat) : Prop :=
  (∀ i, opn.testBit i = (decide (n ≤ i) && p.testBit i)) ∧ (∀ i, chosen.testBit i = true → i < n ∧ p.testBit i = true) ∧ want = sw_od a b p 10 ^^^ sw_od a b chosen 10 ∧ least < 100000 ∧ sw_min a b l opn want least ∧
  ∀ Y, sw_sub Y p → sw_od a b Y 10 = sw_od a b p 10 → sw_ln l chosen 10 + least ≤ sw_ln l Y 10 ∧
    (sw_ln l Y 10 = sw_ln l chosen 10 + least → (∀ j, j < n → Y.testBit j = chosen.testBit j) ∨ ∃ i, i < n ∧ (∀ j, j < i → Y.testBit j = chosen.testBit j) ∧ chosen.testBit i = false ∧ Y.testBit i = true)
theorem sw_gi_0 {a b l : Nat → Nat} {p v : Nat} (hv : sw_min a b l p (sw_od a b p 10) v) (hlt : v < 100000) : sw_gi a b l p 0 (sw_od a b p 10) v p 0 := by
  refine ⟨fun i => ?_, fun i h => ?_, ?_, hlt, hv, fun Y y1 y2 => ⟨?_, fun _ => Or.inl (fun j hj => absurd hj (Nat.not_lt_zero j))⟩⟩
  · rw [decide_eq_true (Nat.zero_le i), Bool.true_and]
  · simp at h
  · rw [sw_od_zero, Nat.xor_zero]
  · rw [sw_ln_zero, Nat.zero_add]
    exact hv.2 Y y1 y2
theorem sw_gi_bit {a b l : Nat → Nat} {p n want least opn chosen : Nat} (h : sw_gi a b l p n want least opn chosen) : chosen.testBit n = false := by
  cases hc : chosen.testBit n with
  | false => rfl
  | true => exact absurd (h.2.1 n hc).1 (Nat.lt_irrefl n)
theorem sw_gi_n {a b l : Nat → Nat} {p n want least opn chosen : Nat} (h : sw_gi a b l p n want least opn chosen) (hn : p.testBit n = false) : sw_gi a b l p (n + 1) want least opn chosen := by
  have hcn := sw_gi_bit h
  obtain ⟨h1, h2, h3, h4, h5, h6⟩ := h
  refine ⟨fun i => ?_, fun i hi => ⟨by have := (h2 i hi).1; omega, (h2 i hi).2⟩, h3, h4, h5, fun Y y1 y2 => ?_⟩
  · rw [h1 i]
    by_cases e : i = n
    · subst e
      rw [hn]
      simp
    · have hq : (n ≤ i) = (n + 1 ≤ i) := by
        apply propext
        omega
      simp only [hq]
  · obtain ⟨k1, k2⟩ := h6 Y y1 y2
    refine ⟨k1, fun e => ?_⟩
    rcases k2 e with k | ⟨i, i0, i1, i2, i3⟩
    · refine Or.inl (fun j hj => ?_)
      by_cases ej : j = n
      · subst ej
        rw [hcn]
        cases hy : Y.testBit j with
        | false => rfl
        | true =>
          have := y1 j hy
          rw [hn] at this
          exact absurd this (by decide)
      · exact k j (by omega)
    · exact Or.inr ⟨i, by omega, i1, i2, i3⟩
theorem sw_gi_open {a b l : Nat → Nat} {p n want least opn chosen : Nat} (h : sw_gi a b l p n want least opn chosen) (i : Nat) : (sw_an opn (2 ^ n)).testBit i = (decide (n + 1 ≤ i) && p.testBit i) := by
  rw [sw_an_bit, h.1 i, Nat.testBit_two_pow]
  by_cases e : n = i
  · subst e
    rw [decide_eq_false (by omega : ¬ n + 1 ≤ n), decide_eq_true (rfl : n = n)]
    simp
  · have hq : (n ≤ i) = (n + 1 ≤ i) := by
      apply propext
      omega
    simp only [hq, decide_eq_false e]
    simp
/-- the street isn't needed -/
theorem sw_gi_keep {a b l : Nat → Nat} {p n want least opn chosen : Nat} (h : sw_gi a b l p n want least opn chosen) (hv : sw_min a b l (sw_an opn (2 ^ n)) want least) : sw_gi a b l p (n + 1) want least (sw_an opn (2 ^ n)) chosen := by
  have hop := sw_gi_open h
  have hcn := sw_gi_bit h
  obtain ⟨h1, h2, h3, h4, h5, h6⟩ := h
  refine ⟨hop, fun i hi => ⟨by have := (h2 i hi).1; omega, (h2 i hi).2⟩, h3, h4, hv, fun Y y1 y2 => ?_⟩
  obtain ⟨k1, k2⟩ := h6 Y y1 y2
  refine ⟨k1, fun e => ?_⟩
  rcases k2 e with k | ⟨i, i0, i1, i2, i3⟩
  · cases hy : Y.testBit n with
    | false =>
      refine Or.inl (fun j hj => ?_)
      by_cases ej : j = n
      · subst ej
        rw [hcn, hy]
      · exact k j (by omega)
    | true => exact Or.inr ⟨n, by omega, k, hcn, hy⟩
  · exact Or.inr ⟨i, by omega, i1, i2, i3⟩
/-- the street is needed -/
theorem sw_gi_take {a b l : Nat → Nat} {p n want least opn chosen v : Nat} (hn10 : n < 10) (hpn : p.testBit n = true) (h : sw_gi a b l p n want least opn chosen) (hv : sw_min a b l (sw_an opn (2 ^ n)) want v) (hne : ¬ v = least) :
    l n ≤ least ∧ sw_gi a b l p (n + 1) (want ^^^ (2 ^ a n ^^^ 2 ^ b n)) (least - l n) (sw_an opn (2 ^ n)) (chosen ||| 2 ^ n) := by
  have hop := sw_gi_open h
  have hcn := sw_gi_bit h
  obtain ⟨h1, h2, h3, h4, h5, h6⟩ := h
  have hon : opn.testBit n = true := by rw [h1 n, hpn, decide_eq_true (Nat.le_refl n)]; rfl
  have hor : chosen ||| 2 ^ n = chosen ^^^ 2 ^ n := by
    apply Nat.eq_of_testBit_eq
    intro i
    rw [Nat.testBit_or, Nat.testBit_xor, Nat.testBit_two_pow]
    by_cases e : n = i
    · subst e
      rw [hcn]
      simp
    · simp [e]
  -- without the street it is dearer
  have dear : ∀ X, sw_sub X (sw_an opn (2 ^ n)) → sw_od a b X 10 = want → ¬ sw_ln l X 10 ≤ least := by
    intro X x1 x2 x3
    have k1 := hv.2 X x1 x2
    obtain ⟨Z, z1, z2, z3⟩ := hv.1 (by omega)
    have k2 := h5.2 Z (sw_sub_trans z1 (sw_an_sub _ _)) z2
    omega
  obtain ⟨X, x1, x2, x3⟩ := h5.1 h4
  have hXn : X.testBit n = true := by
    cases hb : X.testBit n with
    | true => rfl
    | false => exact absurd x3 (dear X (sw_sub_an.mpr ⟨x1, hb⟩) x2)
  have hXl := sw_ln_out l hXn hn10
  have hcl := sw_in (a := a) (b := b) (l := l) hn10 hcn
  refine ⟨by omega, hop, fun i hi => ?_, ?_, by omega, ⟨fun _ => ⟨X ^^^ 2 ^ n, sw_sub_an.mpr ⟨sw_sub_trans (sw_sub_out hXn) x1, sw_out_bit hXn⟩, by rw [sw_od_out a b hn10, x2], by omega⟩, fun Z z1 z2 => ?_⟩, fun Y y1 y2 => ?_⟩
  · rw [Nat.testBit_or, Nat.testBit_two_pow] at hi
    by_cases e : n = i
    · subst e
      exact ⟨by omega, hpn⟩
    · have hi : chosen.testBit i = true := by simpa [e] using hi
      exact ⟨by have := (h2 i hi).1; omega, (h2 i hi).2⟩
  · rw [hor, hcl.2.1, h3, Nat.xor_assoc]
  · have q := sw_sub_an.mp z1
    have i1 := sw_in (a := a) (b := b) (l := l) hn10 q.2
    have k1 := h5.2 (Z ^^^ 2 ^ n) (sw_sub_xor q.1 (sw_sub_one hon)) (by rw [i1.2.1, z2, sw_x3])
    omega
  · obtain ⟨k1, k2⟩ := h6 Y y1 y2
    rw [hor, hcl.2.2]
    refine ⟨by omega, fun e => ?_⟩
    have hcj : ∀ j, j ≠ n → (chosen ^^^ 2 ^ n).testBit j = chosen.testBit j := by
      intro j hj
      rw [sw_bit_x, decide_eq_false (Ne.symm hj), Bool.xor_false]
    rcases k2 (by omega) with k | ⟨i, i0, i1, i2, i3⟩
    · refine Or.inl (fun j hj => ?_)
      by_cases ej : j = n
      · subst ej
        rw [hcl.1]
        cases hy : Y.testBit j with
        | true => rfl
        | false =>
          exfalso
          have hcY : sw_sub chosen Y := by
            intro i hi
            rw [k i (h2 i hi).1]
            exact hi
          have hs := sw_ln_split l hcY 10
          refine dear (Y ^^^ chosen) (fun i hi => ?_) (by rw [sw_od_xor, y2, h3]) (by omega)
          rw [Nat.testBit_xor] at hi
          rw [hop i]
          rcases Nat.lt_trichotomy i j with q | q | q
          · rw [k i q, Bool.xor_self] at hi
            exact absurd hi (by decide)
          · subst q
            rw [hy, hcn] at hi
            exact absurd hi (by decide)
          · have hci : chosen.testBit i = false := by
              cases hc : chosen.testBit i with
              | false => rfl
              | true => exact absurd (h2 i hc).1 (by omega)
            rw [hci, Bool.xor_false] at hi
            rw [y1 i hi, decide_eq_true (by omega : j + 1 ≤ i)]
            rfl
      · rw [hcj j ej]
        exact k j (by omega)
    · refine Or.inr ⟨i, by omega, fun j hj => ?_, ?_, i3⟩
      · rw [hcj j (by omega)]
        exact i1 j hj
      · rw [hcj i (by omega)]
        exact i2
/-- all streets asked -/
theorem sw_gi_e {a b l : Nat → Nat} {p want least opn chosen : Nat} (hp : p < 1024) (h : sw_gi a b l p 10 want least opn chosen) : sw_best a b l p chosen := by
  obtain ⟨h1, h2, h3, h4, h5, h6⟩ := h
  obtain ⟨X, x1, x2, x3⟩ := h5.1 h4
  have hX : X = 0 := by
    apply Nat.eq_of_testBit_eq
    intro i
    rw [Nat.zero_testBit]
    cases hx : X.testBit i with
    | false => rfl
    | true =>
      have hi := x1 i hx
      rw [h1 i, Bool.and_eq_true] at hi
      have := sw_bit_lt (k := 10) (by omega) hi.2
      have h10 : 10 ≤ i := by simpa using hi.1
      omega
  subst hX
  rw [sw_od_zero] at x2
  have hl0 := h5.2 0 (sw_sub_zero _) (by rw [sw_od_zero, x2])
  rw [sw_ln_zero] at hl0
  have e0 : least = 0 := by omega
  subst e0
  have hod : sw_od a b chosen 10 = sw_od a b p 10 := by
    have e1 : sw_od a b p 10 ^^^ sw_od a b chosen 10 = 0 := by rw [← h3, ← x2]
    have e2 := sw_x3 (sw_od a b p 10) (sw_od a b chosen 10)
    rw [e1, Nat.zero_xor] at e2
    exact e2
  refine ⟨fun i hi => (h2 i hi).2, hod, fun Y y1 y2 => ?_⟩
  obtain ⟨k1, k2⟩ := h6 Y y1 y2
  refine ⟨k1, fun e => ?_⟩
  rcases k2 e with k | k
  · refine Or.inl (Nat.eq_of_testBit_eq (fun i => ?_))
    by_cases hi : i < 10
    · exact k i hi
    · have z : ∀ Z, sw_sub Z p → Z.testBit i = false := by
        intro Z hZ
        cases hz : Z.testBit i with
        | false => rfl
        | true => exact absurd (sw_bit_lt (k := 10) (by omega) (hZ i hz)) hi
      rw [z Y y1, z chosen (fun j hj => (h2 j hj).2)]
  · exact Or.inr k
end
section
/-! PLAIN LAWS: least ways from one corner, street by street, six times over -/
def sw_cn (f : Nat → Bool) : Nat → Nat
  | 0 => 0
  | n + 1 => sw_cn f n + (f n).toNat
theorem sw_cn_le {f g : Nat → Bool} : ∀ n, (∀ c, c < n → f c = true → g c = true) → sw_cn f n ≤ sw_cn g n
  | 0, _ => Nat.le_refl _
  | n + 1, h => by
    have ih := sw_cn_le n (fun c hc => h c (by omega))
    have hn := h n (by omega)
    simp only [sw_cn]
    cases hf : f n <;> cases hg : g n
    · simp; omega
    · simp; omega
    · rw [hg] at hn
      exact absurd (hn hf) (by decide)
    · simp; omega
theorem sw_cn_lt {f g : Nat → Bool} : ∀ n, (∀ c, c < n → f c = true → g c = true) → (∃ c, c < n ∧ f c = false ∧ g c = true) → sw_cn f n < sw_cn g n
  | 0, _, ⟨c, h, _⟩ => absurd h (Nat.not_lt_zero c)
  | n + 1, h, ⟨c, h1, h2, h3⟩ => by
    have hn := h n (by omega)
    simp only [sw_cn]
    by_cases e : c = n
    · subst e
      have ih := sw_cn_le c (fun c' hc => h c' (by omega))
      rw [h2, h3]
      simp
      omega
    · have ih := sw_cn_lt n (fun c' hc => h c' (by omega)) ⟨c, by omega, h2, h3⟩
      cases hf : f n <;> cases hg : g n
      · simp; omega
      · simp; omega
      · rw [hg] at hn
        exact absurd (hn hf) (by decide)
      · simp; omega
theorem sw_cn_max (f : Nat → Bool) : ∀ n, sw_cn f n ≤ n
  | 0 => Nat.le_refl _
  | n + 1 => by
    have ih := sw_cn_max f n
    simp only [sw_cn]
    cases f n <;> simp <;> omega
theorem sw_cn_zero {f : Nat → Bool} : ∀ n, sw_cn f n = 0 → ∀ c, c < n → f c = false
  | 0, _, c, h => absurd h (Nat.not_lt_zero c)
  | n + 1, h0, c, h => by
    simp only [sw_cn] at h0
    by_cases e : c = n
    · subst e
      cases hf : f c with
      | false => rfl
      | true =>
        rw [hf] at h0
        simp at h0
    · exact sw_cn_zero n (by omega) c (by omega)
/-- one street tried in both directions -/
def sw_rx (a b l : Nat → Nat) (s : Nat) (nr : Nat → Nat) : Nat → Nat :=
  va_up (va_up nr (b s) (if nr (a s) + l s < nr (b s) then nr (a s) + l s else nr (b s))) (a s) (if nr (b s) + l s < va_up nr (b s) (if nr (a s) + l s < nr (b s) then nr (a s) + l s else nr (b s)) (a s) then nr (b s) + l s else va_up nr (b s) (if nr (a s) + l s < nr (b s) then nr (a s) + l s else nr (b s)) (a s))
theorem sw_rx_v (a b l : Nat → Nat) (s : Nat) (nr : Nat → Nat) (c : Nat) : sw_rx a b l s nr c ≤ nr c ∧ (c = b s → sw_rx a b l s nr c ≤ nr (a s) + l s) ∧ (c = a s → sw_rx a b l s nr c ≤ nr (b s) + l s) ∧
    (sw_rx a b l s nr c = nr c ∨ (c = b s ∧ sw_rx a b l s nr c = nr (a s) + l s) ∨ (c = a s ∧ sw_rx a b l s nr c = nr (b s) + l s)) := by
  unfold sw_rx va_up
  by_cases e1 : c = a s
  · by_cases e2 : a s = b s
    · simp only [e1, e2, if_true]
      split <;> (try split) <;> simp <;> omega
    · simp only [e1, e2, if_true, if_false]
      split <;> simp [e2] <;> omega
  · by_cases e2 : c = b s
    · simp only [e1, e2, if_true, if_false]
      have e3 : ¬ b s = a s := fun q => e1 (e2.trans q)
      simp only [e3, if_false]
      split <;> simp [e3] <;> omega
    · simp only [e1, e2, if_false]
      simp
/-- d: the right answers; no street jumps by more than its length -/
def sw_dd (a b l : Nat → Nat) (p a0 : Nat) (d : Nat → Nat) : Prop := d a0 = 0 ∧ (∀ c, d c ≤ 100000 ∧ sw_min a b l p (2 ^ a0 ^^^ 2 ^ c) (d c)) ∧ ∀ s, s < 10 → p.testBit s = true → d (a s) ≤ d (b s) + l s ∧ d (b s) ≤ d (a s) + l s
theorem sw_dd_ex {a b l : Nat → Nat} (hl : ∀ s, s < 10 → l s ≤ 20) (p a0 : Nat) : ∃ d, sw_dd a b l p a0 d := by
  have hc : ∀ c, ∃ v, v ≤ 100000 ∧ sw_min a b l p (2 ^ a0 ^^^ 2 ^ c) v := fun c => sw_min_ex hl p _
  refine ⟨fun c => Classical.choose (hc c), ?_⟩
  have hd : ∀ c, Classical.choose (hc c) ≤ 100000 ∧ sw_min a b l p (2 ^ a0 ^^^ 2 ^ c) (Classical.choose (hc c)) := fun c => Classical.choose_spec (hc c)
  generalize hdd : (fun c => Classical.choose (hc c)) = d
  have hd : ∀ c, d c ≤ 100000 ∧ sw_min a b l p (2 ^ a0 ^^^ 2 ^ c) (d c) := fun c => by rw [← hdd]; exact hd c
  have lip : ∀ s x y, s < 10 → p.testBit s = true → 2 ^ a s ^^^ 2 ^ b s = 2 ^ x ^^^ 2 ^ y → d y ≤ d x + l s := by
    intro s x y hs hp he
    by_cases hx : d x < 100000
    · obtain ⟨X, x1, x2, x3⟩ := (hd x).2.1 hx
      have h1 := (hd y).2.2 (X ^^^ 2 ^ s) (sw_sub_xor x1 (sw_sub_one hp)) (by rw [sw_od_out a b hs, x2, he]; exact sw_x5 _ _ _)
      have h2 := sw_ln_xor_le l X (2 ^ s) 10
      rw [sw_ln_one l hs] at h2
      omega
    · have := (hd y).1
      omega
  refine ⟨?_, hd, fun s hs hp => ⟨lip s (b s) (a s) hs hp (Nat.xor_comm _ _), lip s (a s) (b s) hs hp rfl⟩⟩
  have h1 := (hd a0).2.2 0 (sw_sub_zero p) (by rw [sw_od_zero, Nat.xor_self])
  rw [sw_ln_zero] at h1
  omega
def sw_nI (d nr : Nat → Nat) : Prop := ∀ c, c < 6 → d c ≤ nr c ∧ nr c ≤ 100000
/-- a street leads from what is settled to what isn't -/
theorem sw_cross {a b l d nr : Nat → Nat} {p v : Nat} (hlip : ∀ s, s < 10 → p.testBit s = true → d (a s) ≤ d (b s) + l s ∧ d (b s) ≤ d (a s) + l s) (hv : ¬ nr v = d v) :
    ∀ (k X u : Nat), sw_ln (fun _ => 1) X 10 ≤ k → sw_sub X p → sw_od a b X 10 = 2 ^ u ^^^ 2 ^ v → nr u = d u → d u + sw_ln l X 10 ≤ d v →
      ∃ s, s < 10 ∧ p.testBit s = true ∧ ((nr (a s) = d (a s) ∧ ¬ nr (b s) = d (b s) ∧ d (a s) + l s ≤ d (b s)) ∨ (nr (b s) = d (b s) ∧ ¬ nr (a s) = d (a s) ∧ d (b s) + l s ≤ d (a s)))
  | k, X, u, hk, hX, ho, hu, hle => by
    have huv : u ≠ v := by
      intro e
      subst e
      exact hv hu
    have hb : (sw_od a b X 10).testBit u = true := by rw [ho]; exact sw_pair_l huv
    obtain ⟨s, h1, h2, h3⟩ := sw_edge a b X u 10 hb
    obtain ⟨t, h4, h5, h6⟩ := sw_other h3
    have hf := sw_fewer h2 h1
    have hps := hX s h2
    have hX' : sw_sub (X ^^^ 2 ^ s) p := sw_sub_trans (sw_sub_out h2) hX
    have ho' : sw_od a b (X ^^^ 2 ^ s) 10 = 2 ^ t ^^^ 2 ^ v := by rw [sw_od_out a b h1, ho, h5]; exact sw_x1 _ _ _
    have hl := sw_ln_out l h2 h1
    have hs := hlip s h1 hps
    have hdv := sw_lip hlip (sw_ln (fun _ => 1) (X ^^^ 2 ^ s) 10) (X ^^^ 2 ^ s) t v (Nat.le_refl _) hX' ho'
    have hut : d u + l s ≤ d t := by omega
    have htu : d t ≤ d u + l s := by
      rcases h6 with ⟨e1, e2⟩ | ⟨e1, e2⟩
      · rw [e1, e2] at hs
        exact hs.2
      · rw [e1, e2] at hs
        exact hs.1
    by_cases ht : nr t = d t
    · match k, hk with
      | 0, hk => omega
      | k + 1, hk => exact sw_cross hlip hv k (X ^^^ 2 ^ s) t (by omega) hX' ho' ht (by omega)
    · refine ⟨s, h1, hps, ?_⟩
      rcases h6 with ⟨e1, e2⟩ | ⟨e1, e2⟩
      · rw [e1, e2]
        exact Or.inl ⟨hu, ht, hut⟩
      · rw [e1, e2]
        exact Or.inr ⟨hu, ht, hut⟩
/-- within a pass that began with n0: n streets are done -/
def sw_nP (a b l d : Nat → Nat) (p : Nat) (n0 : Nat → Nat) (n : Nat) (nr : Nat → Nat) : Prop := sw_nI d nr ∧ (∀ c, c < 6 → nr c ≤ n0 c) ∧
  ∀ t, t < n → p.testBit t = true → (n0 (a t) = d (a t) → nr (b t) ≤ d (a t) + l t) ∧ (n0 (b t) = d (b t) → nr (a t) ≤ d (b t) + l t)
theorem sw_nP_0 {a b l d nr : Nat → Nat} {p : Nat} (h : sw_nI d nr) : sw_nP a b l d p nr 0 nr := ⟨h, fun _ _ => Nat.le_refl _, fun t h => absurd h (Nat.not_lt_zero t)⟩
theorem sw_nP_n {a b l d n0 nr : Nat → Nat} {p n : Nat} (h : sw_nP a b l d p n0 n nr) (hn : p.testBit n = false) : sw_nP a b l d p n0 (n + 1) nr := by
  refine ⟨h.1, h.2.1, fun t ht hp => ?_⟩
  by_cases e : t = n
  · subst e
    rw [hn] at hp
    exact absurd hp (by decide)
  · exact h.2.2 t (by omega) hp
theorem sw_nP_s {a b l d n0 nr : Nat → Nat} {p a0 n : Nat} (hr : sw_rng a b l) (hd : sw_dd a b l p a0 d) (h : sw_nP a b l d p n0 n nr) (hn10 : n < 10) (hn : p.testBit n = true) : sw_nP a b l d p n0 (n + 1) (sw_rx a b l n nr) := by
  obtain ⟨ha, hb, hl⟩ := hr n hn10
  obtain ⟨h1, h2, h3⟩ := h
  have hlip := hd.2.2 n hn10 hn
  have ia := h1 (a n) ha
  have ib := h1 (b n) hb
  refine ⟨fun c hc => ?_, fun c hc => Nat.le_trans (sw_rx_v a b l n nr c).1 (h2 c hc), fun t ht hp => ?_⟩
  · obtain ⟨r1, r2, r3, r4⟩ := sw_rx_v a b l n nr c
    have ic := h1 c hc
    refine ⟨?_, Nat.le_trans r1 ic.2⟩
    rcases r4 with e | ⟨e1, e2⟩ | ⟨e1, e2⟩
    · omega
    · rw [e2, e1]
      omega
    · rw [e2, e1]
      omega
  · obtain ⟨hta, htb, -⟩ := hr t (by omega)
    by_cases e : t = n
    · subst e
      have qa := (sw_rx_v a b l t nr (b t)).2.1 rfl
      have qb := (sw_rx_v a b l t nr (a t)).2.2.1 rfl
      have na := h2 (a t) ha
      have nb := h2 (b t) hb
      exact ⟨fun e => by omega, fun e => by omega⟩
    · obtain ⟨q1, q2⟩ := h3 t (by omega) hp
      exact ⟨fun e => Nat.le_trans (sw_rx_v a b l n nr (b t)).1 (q1 e), fun e => Nat.le_trans (sw_rx_v a b l n nr (a t)).1 (q2 e)⟩
/-- a pass settles one more corner, if one is left -/
theorem sw_nQ_s {a b l d n0 nr : Nat → Nat} {p a0 k : Nat} (hr : sw_rng a b l) (ha0 : a0 < 6) (hd : sw_dd a b l p a0 d) (h0 : sw_nI d n0 ∧ (sw_cn (fun c => !decide (n0 c = d c)) 6 = 0 ∨ sw_cn (fun c => !decide (n0 c = d c)) 6 + k ≤ 6)) (hz : n0 a0 = 0) (h : sw_nP a b l d p n0 10 nr) :
    nr a0 = 0 ∧ sw_nI d nr ∧ (sw_cn (fun c => !decide (nr c = d c)) 6 = 0 ∨ sw_cn (fun c => !decide (nr c = d c)) 6 + (k + 1) ≤ 6) := by
  obtain ⟨h1, h2, h3⟩ := h
  have keep : ∀ c, c < 6 → n0 c = d c → nr c = d c := fun c hc e => by
    have q1 := h1 c hc
    have q2 := h2 c hc
    omega
  have hz' : nr a0 = 0 := by
    have := h2 a0 ha0
    omega
  refine ⟨hz', h1, ?_⟩
  have hle : ∀ c, c < 6 → (!decide (nr c = d c)) = true → (!decide (n0 c = d c)) = true := by
    intro c hc q
    have q : ¬ nr c = d c := by simpa using q
    have : ¬ n0 c = d c := fun e => q (keep c hc e)
    simpa using this
  by_cases hall : sw_cn (fun c => !decide (n0 c = d c)) 6 = 0
  · refine Or.inl ?_
    have := sw_cn_le (f := fun c => !decide (nr c = d c)) (g := fun c => !decide (n0 c = d c)) 6 hle
    omega
  · have hex : ∃ v, v < 6 ∧ ¬ n0 v = d v := by
      rcases Classical.em (∃ v, v < 6 ∧ ¬ n0 v = d v) with q | q
      · exact q
      · refine absurd ?_ hall
        have h4 := sw_cn_le (f := fun c => !decide (n0 c = d c)) (g := fun _ => false) 6 (fun c hc e => by
          have e : ¬ n0 c = d c := by simpa using e
          exact absurd ⟨c, hc, e⟩ q)
        have h5 : sw_cn (fun _ => false) 6 = 0 := rfl
        omega
    obtain ⟨v, hv6, hv⟩ := hex
    have hvI := h0.1 v hv6
    have hdv : d v < 100000 := by omega
    obtain ⟨X, x1, x2, x3⟩ := (hd.2.1 v).2.1 hdv
    have hd0 := hd.1
    obtain ⟨s, s1, s2, s3⟩ := sw_cross (nr := n0) hd.2.2 hv _ X a0 (Nat.le_refl _) x1 x2 (by omega) (by omega)
    obtain ⟨ra, rb, -⟩ := hr s s1
    obtain ⟨t1, t2⟩ := h3 s s1 s2
    have hlt : sw_cn (fun c => !decide (nr c = d c)) 6 < sw_cn (fun c => !decide (n0 c = d c)) 6 := by
      refine sw_cn_lt 6 hle ?_
      rcases s3 with ⟨u1, u2, u3⟩ | ⟨u1, u2, u3⟩
      · have k1 := t1 u1
        have k2 := h1 (b s) rb
        have k3 : nr (b s) = d (b s) := by omega
        exact ⟨b s, rb, by simp [k3], by simp [u2]⟩
      · have k1 := t2 u1
        have k2 := h1 (a s) ra
        have k3 : nr (a s) = d (a s) := by omega
        exact ⟨a s, ra, by simp [k3], by simp [u2]⟩
    rcases h0.2 with q | q
    · exact absurd q hall
    · right
      omega
/-- before pass k -/
def sw_nK (a b l d : Nat → Nat) (p a0 k : Nat) (nr : Nat → Nat) : Prop := sw_dd a b l p a0 d ∧ nr a0 = 0 ∧ sw_nI d nr ∧ (sw_cn (fun c => !decide (nr c = d c)) 6 = 0 ∨ sw_cn (fun c => !decide (nr c = d c)) 6 + k ≤ 6)
theorem sw_nK_s {a b l d n0 nr : Nat → Nat} {p a0 k : Nat} (hr : sw_rng a b l) (ha0 : a0 < 6) (h0 : sw_nK a b l d p a0 k n0) (h : sw_nP a b l d p n0 10 nr) : sw_nK a b l d p a0 (k + 1) nr := by
  obtain ⟨h1, h2, h3, h4⟩ := h0
  exact ⟨h1, sw_nQ_s hr ha0 h1 ⟨h3, h4⟩ h2 h⟩
theorem sw_nK_0 {a b l nr : Nat → Nat} {p a0 : Nat} (hl : ∀ s, s < 10 → l s ≤ 20) (h : ∀ c, c < 6 → nr c = if c = a0 then 0 else 100000) (ha0 : a0 < 6) : ∃ d, sw_nK a b l d p a0 0 nr := by
  obtain ⟨d, hd⟩ := sw_dd_ex (a := a) (b := b) hl p a0
  refine ⟨d, hd, by rw [h a0 ha0, if_pos rfl], fun c hc => ?_, Or.inr (sw_cn_max _ 6)⟩
  rw [h c hc]
  by_cases e : c = a0
  · subst e
    rw [if_pos rfl, hd.1]
    omega
  · rw [if_neg e]
    exact ⟨(hd.2.1 c).1, Nat.le_refl _⟩
theorem sw_nK_e {a b l d nr : Nat → Nat} {p a0 c : Nat} (h : sw_nK a b l d p a0 6 nr) (hc : c < 6) : nr c ≤ 100000 ∧ sw_min a b l p (2 ^ a0 ^^^ 2 ^ c) (nr c) := by
  obtain ⟨h1, h2, h3, h4⟩ := h
  have h5 : sw_cn (fun c => !decide (nr c = d c)) 6 = 0 := by omega
  have h6 := sw_cn_zero 6 h5 c hc
  have h7 : nr c = d c := by simpa using h6
  rw [h7]
  exact h1.2.1 c
end
section
/-! PLAIN LAWS: which corners can be got to; the next street; the first walk -/
def sw_E (a b : Nat → Nat) (s : Nat) : Nat := 2 ^ a s ||| 2 ^ b s
theorem sw_E_bit (a b : Nat → Nat) (s i : Nat) : (sw_E a b s).testBit i = (decide (a s = i) || decide (b s = i)) := by
  unfold sw_E
  rw [Nat.testBit_or, Nat.testBit_two_pow, Nat.testBit_two_pow]
theorem sw_E_x {a b : Nat → Nat} {s : Nat} (h : a s ≠ b s) : sw_E a b s = 2 ^ a s ^^^ 2 ^ b s := by
  apply Nat.eq_of_testBit_eq
  intro i
  rw [sw_E_bit, sw_pair_bit]
  by_cases e1 : a s = i
  · have e2 : ¬ b s = i := fun q => h (e1.trans q.symm)
    simp [e1, e2]
  · simp [e1]
theorem sw_p64 {k : Nat} (h : k < 6) : 2 ^ k < 64 := Nat.pow_lt_pow_right (by decide) h (n := 6)
theorem sw_E_lt {a b l : Nat → Nat} (hr : sw_rng a b l) {s : Nat} (hs : s < 10) : sw_E a b s < 64 := Nat.or_lt_two_pow (n := 6) (sw_p64 (hr s hs).1) (sw_p64 (hr s hs).2.1)
/-- one street: if it begins at a corner that is got to, so is its end -/
def sw_st (e r : Nat) (h : Bool) : Nat := if h = true ∧ ¬ (e &&& r = 0) then r ||| e else r
def sw_ps (a b : Nat → Nat) (X : Nat) : Nat → Nat → Nat
  | 0, c => c
  | n + 1, c => sw_st (sw_E a b n) (sw_ps a b X n c) (X.testBit n)
def sw_rc (a b : Nat → Nat) (X c : Nat) : Nat → Nat
  | 0 => c
  | n + 1 => sw_ps a b X 10 (sw_rc a b X c n)
theorem sw_or_l (x y : Nat) : sw_sub x (x ||| y) := fun i h => by rw [Nat.testBit_or, h]; rfl
theorem sw_or_r (x y : Nat) : sw_sub y (x ||| y) := fun i h => by rw [Nat.testBit_or, h, Bool.or_true]
theorem sw_st_sub (e r : Nat) (h : Bool) : sw_sub r (sw_st e r h) := by
  unfold sw_st
  split
  · exact sw_or_l r e
  · exact sw_sub_refl r
theorem sw_st_lt {e r : Nat} {h : Bool} (he : e < 64) (hr : r < 64) : sw_st e r h < 64 := by
  unfold sw_st
  split
  · exact Nat.or_lt_two_pow (n := 6) hr he
  · exact hr
theorem sw_ps_sub (a b : Nat → Nat) (X c : Nat) : ∀ n, sw_sub c (sw_ps a b X n c)
  | 0 => sw_sub_refl c
  | n + 1 => sw_sub_trans (sw_ps_sub a b X c n) (sw_st_sub _ _ _)
theorem sw_ps_lt {a b l : Nat → Nat} (hr : sw_rng a b l) (X : Nat) {c : Nat} (hc : c < 64) : ∀ n, n ≤ 10 → sw_ps a b X n c < 64
  | 0, _ => hc
  | n + 1, h => sw_st_lt (sw_E_lt hr (by omega)) (sw_ps_lt hr X hc n (by omega))
theorem sw_rc_lt {a b l : Nat → Nat} (hr : sw_rng a b l) (X : Nat) {c : Nat} (hc : c < 64) : ∀ n, sw_rc a b X c n < 64
  | 0 => hc
  | n + 1 => sw_ps_lt hr X (sw_rc_lt hr X hc n) 10 (Nat.le_refl _)
theorem sw_sub_anti {x y : Nat} (h1 : sw_sub x y) (h2 : sw_sub y x) : x = y := Nat.le_antisymm (sw_sub_le h1) (sw_sub_le h2)
theorem sw_ps_fix {a b : Nat → Nat} {X c : Nat} : ∀ n, sw_ps a b X n c = c → ∀ s, s < n → X.testBit s = true → ¬ (sw_E a b s &&& c = 0) → sw_sub (sw_E a b s) c
  | 0, _, s, h, _, _ => absurd h (Nat.not_lt_zero s)
  | n + 1, h, s, hs, hX, hE => by
    have h1 : sw_sub (sw_ps a b X n c) c := by
      have := sw_st_sub (sw_E a b n) (sw_ps a b X n c) (X.testBit n)
      have e : sw_st (sw_E a b n) (sw_ps a b X n c) (X.testBit n) = c := h
      rw [e] at this
      exact this
    have h2 : sw_ps a b X n c = c := sw_sub_anti h1 (sw_ps_sub a b X c n)
    by_cases e : s = n
    · subst e
      have e2 : sw_st (sw_E a b s) (sw_ps a b X s c) (X.testBit s) = c := h
      rw [h2, hX] at e2
      unfold sw_st at e2
      rw [if_pos ⟨rfl, hE⟩] at e2
      have h3 := sw_or_r c (sw_E a b s)
      rw [e2] at h3
      exact h3
    · exact sw_ps_fix n h2 s (by omega) hX hE
theorem sw_rc_sub (a b : Nat → Nat) (X c : Nat) : ∀ n, sw_sub c (sw_rc a b X c n)
  | 0 => sw_sub_refl c
  | n + 1 => sw_sub_trans (sw_rc_sub a b X c n) (sw_ps_sub a b X _ 10)
theorem sw_rc_cnt {a b l : Nat → Nat} (hr : sw_rng a b l) (X : Nat) {c : Nat} (hc : c < 64) : ∀ n, sw_ps a b X 10 (sw_rc a b X c n) = sw_rc a b X c n ∨ sw_cn (fun v => !(sw_rc a b X c n).testBit v) 6 + n ≤ 6
  | 0 => Or.inr (sw_cn_max _ 6)
  | n + 1 => by
    rcases sw_rc_cnt hr X hc n with h | h
    · left
      show sw_ps a b X 10 (sw_ps a b X 10 (sw_rc a b X c n)) = sw_ps a b X 10 (sw_rc a b X c n)
      rw [h, h]
    · by_cases e : sw_ps a b X 10 (sw_rc a b X c n) = sw_rc a b X c n
      · left
        show sw_ps a b X 10 (sw_ps a b X 10 (sw_rc a b X c n)) = sw_ps a b X 10 (sw_rc a b X c n)
        rw [e, e]
      · right
        have hs := sw_ps_sub a b X (sw_rc a b X c n) 10
        have hlt := sw_ps_lt hr X (sw_rc_lt hr X hc n) 10 (Nat.le_refl _)
        have hex : ∃ i, (sw_ps a b X 10 (sw_rc a b X c n)).testBit i = true ∧ (sw_rc a b X c n).testBit i = false := by
          rcases Classical.em (∃ i, (sw_ps a b X 10 (sw_rc a b X c n)).testBit i = true ∧ (sw_rc a b X c n).testBit i = false) with q | q
          · exact q
          · refine absurd (sw_sub_anti (fun i hi => ?_) hs) e
            cases hb : (sw_rc a b X c n).testBit i with
            | true => rfl
            | false => exact absurd ⟨i, hi, hb⟩ q
        obtain ⟨i, i1, i2⟩ := hex
        have i6 : i < 6 := sw_bit_lt (k := 6) hlt i1
        have hl : sw_cn (fun v => !(sw_rc a b X c (n + 1)).testBit v) 6 < sw_cn (fun v => !(sw_rc a b X c n).testBit v) 6 := by
          refine sw_cn_lt 6 (fun v hv q => ?_) ⟨i, i6, ?_, ?_⟩
          · cases hb : (sw_rc a b X c n).testBit v with
            | false => rfl
            | true =>
              have h3 : (sw_rc a b X c (n + 1)).testBit v = true := hs v hb
              rw [h3] at q
              exact absurd q (by decide)
          · show (!(sw_ps a b X 10 (sw_rc a b X c n)).testBit i) = false
            rw [i1]
            rfl
          · show (!(sw_rc a b X c n).testBit i) = true
            rw [i2]
            rfl
        omega
/-- after six passes nothing changes any more -/
theorem sw_rc_fix {a b l : Nat → Nat} (hr : sw_rng a b l) (X : Nat) {c : Nat} (hc : c < 64) : sw_ps a b X 10 (sw_rc a b X c 6) = sw_rc a b X c 6 := by
  rcases sw_rc_cnt hr X hc 6 with h | h
  · exact h
  · have h0 : sw_cn (fun v => !(sw_rc a b X c 6).testBit v) 6 = 0 := by omega
    have hz := sw_cn_zero 6 h0
    refine sw_sub_anti (fun i hi => ?_) (sw_ps_sub a b X _ 10)
    have i6 : i < 6 := sw_bit_lt (k := 6) (sw_ps_lt hr X (sw_rc_lt hr X hc 6) 10 (Nat.le_refl _)) hi
    have := hz i i6
    simpa using this
/-- both ends of a street are got to, or none -/
theorem sw_rc_ends {a b l : Nat → Nat} (hr : sw_rng a b l) (X : Nat) {c : Nat} (hc : c < 64) {s : Nat} (hs : s < 10) (hX : X.testBit s = true) : (sw_rc a b X c 6).testBit (a s) = true ↔ (sw_rc a b X c 6).testBit (b s) = true := by
  have hf := sw_ps_fix 10 (sw_rc_fix hr X hc) s hs hX
  have ha : (sw_E a b s).testBit (a s) = true := by rw [sw_E_bit, decide_eq_true rfl]; rfl
  have hb : (sw_E a b s).testBit (b s) = true := by rw [sw_E_bit, decide_eq_true (rfl : b s = b s), Bool.or_true]
  have ne : ∀ i, (sw_E a b s).testBit i = true → (sw_rc a b X c 6).testBit i = true → ¬ (sw_E a b s &&& sw_rc a b X c 6 = 0) := by
    intro i h1 h2 q
    have h3 := Nat.testBit_and (sw_E a b s) (sw_rc a b X c 6) i
    rw [q, h1, h2, Nat.zero_testBit] at h3
    exact absurd h3 (by decide)
  exact ⟨fun h => hf (ne _ ha h) _ hb, fun h => hf (ne _ hb h) _ ha⟩
/-- nothing outside is got to -/
theorem sw_ps_in {a b : Nat → Nat} {X : Nat} {C : Nat → Prop} (hC : ∀ s, s < 10 → X.testBit s = true → (C (a s) ↔ C (b s))) {c : Nat} (hc : ∀ v, c.testBit v = true → C v) : ∀ n, n ≤ 10 → ∀ v, (sw_ps a b X n c).testBit v = true → C v
  | 0, _, v, h => hc v h
  | n + 1, hn, v, h => by
    have ih := sw_ps_in hC hc n (by omega)
    have h : (sw_st (sw_E a b n) (sw_ps a b X n c) (X.testBit n)).testBit v = true := h
    unfold sw_st at h
    split at h
    · rename_i hq
      obtain ⟨q1, q2⟩ := hq
      have hab := hC n (by omega) q1
      obtain ⟨i, hi⟩ := sw_ne0 q2
      rw [Nat.testBit_and, Bool.and_eq_true, sw_E_bit] at hi
      have hCi := ih i hi.2
      have hCa : C (a n) := by
        have : a n = i ∨ b n = i := by simpa using hi.1
        rcases this with e | e
        · rw [e]; exact hCi
        · rw [hab, e]; exact hCi
      rw [Nat.testBit_or] at h
      cases hb : (sw_ps a b X n c).testBit v with
      | true => exact ih v hb
      | false =>
        rw [hb, Bool.false_or, sw_E_bit] at h
        have : a n = v ∨ b n = v := by simpa using h
        rcases this with e | e
        · rw [← e]; exact hCa
        · rw [← e]; exact hab.mp hCa
    · exact ih v h
theorem sw_rc_in {a b : Nat → Nat} {X : Nat} {C : Nat → Prop} (hC : ∀ s, s < 10 → X.testBit s = true → (C (a s) ↔ C (b s))) {c : Nat} (hc : ∀ v, c.testBit v = true → C v) : ∀ n v, (sw_rc a b X c n).testBit v = true → C v
  | 0, v, h => hc v h
  | n + 1, v, h => sw_ps_in hC (sw_rc_in hC hc n) 10 (Nat.le_refl _) v h
/-- the corners at which a street of X ends -/
def sw_tc (a b : Nat → Nat) (X : Nat) : Nat → Nat
  | 0 => 0
  | n + 1 => if X.testBit n = true then sw_tc a b X n ||| sw_E a b n else sw_tc a b X n
theorem sw_tc_bit {a b : Nat → Nat} {X v : Nat} : ∀ n, (sw_tc a b X n).testBit v = true ↔ ∃ s, s < n ∧ X.testBit s = true ∧ (a s = v ∨ b s = v)
  | 0 => by
    constructor
    · intro h
      simp [sw_tc] at h
    · rintro ⟨s, h, -⟩
      exact absurd h (Nat.not_lt_zero s)
  | n + 1 => by
    have ih := sw_tc_bit (a := a) (b := b) (X := X) (v := v) n
    unfold sw_tc
    split
    · rename_i hX
      rw [Nat.testBit_or, Bool.or_eq_true, ih, sw_E_bit]
      constructor
      · rintro (⟨s, h1, h2, h3⟩ | h)
        · exact ⟨s, by omega, h2, h3⟩
        · exact ⟨n, by omega, hX, by simpa using h⟩
      · rintro ⟨s, h1, h2, h3⟩
        by_cases e : s = n
        · subst e
          exact Or.inr (by simpa using h3)
        · exact Or.inl ⟨s, by omega, h2, h3⟩
    · rename_i hX
      rw [ih]
      constructor
      · rintro ⟨s, h1, h2, h3⟩
        exact ⟨s, by omega, h2, h3⟩
      · rintro ⟨s, h1, h2, h3⟩
        by_cases e : s = n
        · subst e
          exact absurd h2 hX
        · exact ⟨s, by omega, h2, h3⟩
theorem sw_tc_lt {a b l : Nat → Nat} (hr : sw_rng a b l) (X : Nat) : ∀ n, n ≤ 10 → sw_tc a b X n < 64
  | 0, _ => by show 0 < 64; decide
  | n + 1, h => by
    have ih := sw_tc_lt hr X n (by omega)
    unfold sw_tc
    split
    · exact Nat.or_lt_two_pow (n := 6) ih (sw_E_lt hr (by omega))
    · exact ih
/-- the first ends of all streets of X are in R -/
def sw_al (a : Nat → Nat) (X R : Nat) : Nat → Bool
  | 0 => true
  | n + 1 => sw_al a X R n && (!X.testBit n || R.testBit (a n))
theorem sw_al_iff {a : Nat → Nat} {X R : Nat} : ∀ n, sw_al a X R n = true ↔ ∀ s, s < n → X.testBit s = true → R.testBit (a s) = true
  | 0 => ⟨fun _ s h => absurd h (Nat.not_lt_zero s), fun _ => rfl⟩
  | n + 1 => by
    have ih := sw_al_iff (a := a) (X := X) (R := R) n
    unfold sw_al
    rw [Bool.and_eq_true, ih, Bool.or_eq_true]
    constructor
    · rintro ⟨h1, h2⟩ s hs hX
      by_cases e : s = n
      · subst e
        rcases h2 with h2 | h2
        · rw [hX] at h2
          exact absurd h2 (by decide)
        · exact h2
      · exact h1 s (by omega) hX
    · intro h
      refine ⟨fun s hs hX => h s (by omega) hX, ?_⟩
      cases hX : X.testBit n with
      | false => exact Or.inl rfl
      | true => exact Or.inr (h n (by omega) hX)
/-- what is touched lies in what is got to: it's enough to ask for the first ends -/
theorem sw_tc_al {a b l : Nat → Nat} (hr : sw_rng a b l) (X : Nat) {c : Nat} (hc : c < 64) : sw_an (sw_tc a b X 10) (sw_rc a b X c 6) = 0 ↔ sw_al a X (sw_rc a b X c 6) 10 = true := by
  rw [sw_an_zero, sw_al_iff]
  constructor
  · intro h s hs hX
    exact h _ ((sw_tc_bit 10).mpr ⟨s, hs, hX, Or.inl rfl⟩)
  · intro h i hi
    obtain ⟨s, h1, h2, h3⟩ := (sw_tc_bit 10).mp hi
    have h4 := h s h1 h2
    rcases h3 with e | e
    · rw [← e]; exact h4
    · rw [← e]; exact (sw_rc_ends hr X hc h1 h2).mp h4
/-- all streets of X hang together -/
def sw_con (a b : Nat → Nat) (X : Nat) : Prop := ∀ C : Nat → Prop, (∀ s, s < 10 → X.testBit s = true → (C (a s) ↔ C (b s))) → ∀ s t, s < 10 → t < 10 → X.testBit s = true → X.testBit t = true → C (a s) → C (a t)
/-- asked from a corner that is touched -/
theorem sw_con_iff {a b l : Nat → Nat} (hr : sw_rng a b l) (X : Nat) {u s0 : Nat} (h0 : s0 < 10) (h1 : X.testBit s0 = true) (h2 : a s0 = u ∨ b s0 = u) : sw_al a X (sw_rc a b X (2 ^ u) 6) 10 = true ↔ sw_con a b X := by
  have hu6 : u < 6 := by
    obtain ⟨ra, rb, -⟩ := hr s0 h0
    rcases h2 with e | e
    · omega
    · omega
  have hc := sw_p64 hu6
  have huR : (sw_rc a b X (2 ^ u) 6).testBit u = true := sw_rc_sub a b X (2 ^ u) 6 u Nat.testBit_two_pow_self
  have haR : (sw_rc a b X (2 ^ u) 6).testBit (a s0) = true := by
    rcases h2 with e | e
    · rw [e]; exact huR
    · rw [sw_rc_ends hr X hc h0 h1, e]; exact huR
  rw [sw_al_iff]
  constructor
  · intro h C hC s t hs ht hXs hXt hCs
    have one : ∀ v, (2 ^ u).testBit v = true → v = u := fun v hv => by
      rw [Nat.testBit_two_pow] at hv
      have : u = v := by simpa using hv
      exact this.symm
    by_cases hCu : C u
    · exact sw_rc_in hC (c := 2 ^ u) (fun v hv => by rw [one v hv]; exact hCu) 6 _ (h t ht hXt)
    · exfalso
      exact sw_rc_in (C := fun v => ¬ C v) (fun s hs hX => by rw [hC s hs hX]) (c := 2 ^ u) (fun v hv => by rw [one v hv]; exact hCu) 6 _ (h s hs hXs) hCs
  · intro h s hs hX
    exact h (fun v => (sw_rc a b X (2 ^ u) 6).testBit v = true) (fun t ht hXt => sw_rc_ends hr X hc ht hXt) s0 s h0 hs h1 hX haR
theorem sw_con_no {a b : Nat → Nat} {X : Nat} (h : ∀ s, s < 10 → X.testBit s = false) : sw_con a b X := by
  intro C _ s t hs _ hX
  rw [h s hs] at hX
  exact absurd hX (by decide)
/-- the least corner of a set of corners -/
def sw_lo (c : Nat) : Nat := c &&& (64 - c)
theorem sw_lo_is : ∀ c, c < 64 → c = 0 ∨ ∃ u, u < 6 ∧ c.testBit u = true ∧ sw_lo c = 2 ^ u := by decide +kernel
/-- connected, as the component asks it -/
theorem sw_con_x {a b l : Nat → Nat} (hr : sw_rng a b l) (X : Nat) : sw_an (sw_tc a b X 10) (sw_rc a b X (sw_lo (sw_tc a b X 10)) 6) = 0 ↔ sw_con a b X := by
  rcases sw_lo_is _ (sw_tc_lt hr X 10 (Nat.le_refl _)) with h | ⟨u, h1, h2, h3⟩
  · have hno : ∀ s, s < 10 → X.testBit s = false := by
      intro s hs
      cases hX : X.testBit s with
      | false => rfl
      | true =>
        have h4 := (sw_tc_bit (a := a) (b := b) 10).mpr ⟨s, hs, hX, Or.inl rfl⟩
        rw [h] at h4
        simp at h4
    constructor
    · intro _
      exact sw_con_no hno
    · intro _
      rw [h]
      exact sw_an_zero.mpr (sw_sub_zero _)
  · obtain ⟨s, s1, s2, s3⟩ := (sw_tc_bit 10).mp h2
    rw [h3, sw_tc_al hr X (sw_p64 h1)]
    exact sw_con_iff hr X s1 s2 s3
/-- the streets that are left -/
def sw_rs (f : Nat → Nat) : Nat → Nat
  | 0 => 0
  | n + 1 => if 0 < f n then sw_rs f n ||| 2 ^ n else sw_rs f n
theorem sw_rs_lt (f : Nat → Nat) : ∀ n, sw_rs f n < 2 ^ n
  | 0 => by simp [sw_rs]
  | n + 1 => by
    have ih := sw_rs_lt f n
    have h1 : sw_rs f n < 2 ^ (n + 1) := Nat.lt_of_lt_of_le ih (Nat.pow_le_pow_right (by decide) (by omega))
    unfold sw_rs
    split
    · exact Nat.or_lt_two_pow h1 (Nat.pow_lt_pow_right (by decide) (by omega))
    · exact h1
/-- the first place from i on that is fit -/
def sw_nx (f : Nat → Bool) : Nat → Nat → Option Nat
  | 0, _ => none
  | n + 1, i => if f i = true then some i else sw_nx f n (i + 1)
theorem sw_nx_none {f : Nat → Bool} : ∀ n i, (∀ k, i ≤ k → k < i + n → f k = false) → sw_nx f n i = none
  | 0, _, _ => rfl
  | n + 1, i, h => by
    unfold sw_nx
    rw [h i (by omega) (by omega)]
    exact sw_nx_none n (i + 1) (fun k h1 h2 => h k (by omega) (by omega))
theorem sw_nx_some {f : Nat → Bool} : ∀ n i k, sw_nx f n i = some k → i ≤ k ∧ k < i + n ∧ f k = true
  | 0, _, _, h => by simp [sw_nx] at h
  | n + 1, i, k, h => by
    unfold sw_nx at h
    split at h
    · rename_i hf
      have e : i = k := by simpa using h
      subst e
      exact ⟨Nat.le_refl _, by omega, hf⟩
    · obtain ⟨q1, q2, q3⟩ := sw_nx_some n (i + 1) k h
      exact ⟨by omega, by omega, q3⟩
/-- street s may be gone along from corner at: it is left, begins there, and all that then is left can still be got to -/
def sw_gd (a b f : Nat → Nat) (at0 s : Nat) : Bool :=
  (decide (0 < f s) && (decide (a s = at0) || decide (b s = at0))) && sw_al a (sw_rs (va_up f s (f s - 1)) 10) (sw_rc a b (sw_rs (va_up f s (f s - 1)) 10) (2 ^ (a s + b s - at0)) 6) 10
def sw_nxt (a b f : Nat → Nat) (at0 : Nat) : Option Nat := sw_nx (sw_gd a b f at0) 10 0
/-- the street gone along last, of n + 1 -/
def sw_wk (a b : Nat → Nat) : Nat → (Nat → Nat) → Nat → Option Nat
  | 0, f, at0 => sw_nxt a b f at0
  | n + 1, f, at0 => match sw_nxt a b f at0 with
    | none => none
    | some s => sw_wk a b n (va_up f s (f s - 1)) (a s + b s - at0)
end
section
/-! NUMBERS: ints of the machine as natural numbers (nI), bit by bit -/
theorem sn_and (a b : Nat) : nI a &&& nI b = nI (a &&& b) := by
  apply Int32.toBitVec_inj.1
  show BitVec.ofNat 32 a &&& BitVec.ofNat 32 b = BitVec.ofNat 32 (a &&& b)
  apply BitVec.eq_of_getLsbD_eq
  intro i hi
  simp [hi]
theorem sn_or (a b : Nat) : nI a ||| nI b = nI (a ||| b) := by
  apply Int32.toBitVec_inj.1
  show BitVec.ofNat 32 a ||| BitVec.ofNat 32 b = BitVec.ofNat 32 (a ||| b)
  apply BitVec.eq_of_getLsbD_eq
  intro i hi
  simp [hi]
theorem sn_xor (a b : Nat) : nI a ^^^ nI b = nI (a ^^^ b) := by
  apply Int32.toBitVec_inj.1
  show BitVec.ofNat 32 a ^^^ BitVec.ofNat 32 b = BitVec.ofNat 32 (a ^^^ b)
  apply BitVec.eq_of_getLsbD_eq
  intro i hi
  simp [hi]
theorem sn_sh : ∀ n, n < 32 → ((nI n &&& 31).toBitVec.smod 32).toNat = n := by decide +kernel
theorem sn_shr {n i : Nat} (h : n < 2 ^ 31) (hi : i < 32) : nI n >>> (nI i &&& 31) = nI (n / 2 ^ i) := pk_shrN h _ i (sn_sh i hi)
theorem sn_shl {n i : Nat} (hi : i < 32) (h : n * 2 ^ i < 2 ^ 32) : nI n <<< (nI i &&& 31) = nI (n * 2 ^ i) := pk_shlN _ i (sn_sh i hi) h
theorem sn_bitv (n i : Nat) : n / 2 ^ i % 2 = (n.testBit i).toNat := by
  rw [Nat.testBit_eq_decide_div_mod_eq]
  by_cases h : n / 2 ^ i % 2 = 1
  · simp [h]
  · have h0 : n / 2 ^ i % 2 = 0 := by omega
    simp [h0]
theorem sn_bit {n i : Nat} (h : n < 2 ^ 31) (hi : i < 32) : (nI n >>> (nI i &&& 31)) &&& nI 1 = nI (n.testBit i).toNat := by
  rw [sn_shr h hi, sn_and, Nat.and_one_is_mod, sn_bitv]
theorem sn_not (x y : Nat) : nI x &&& (nI y ^^^ (-1)) = nI (sw_an x y) := by
  apply Int32.toBitVec_inj.1
  show BitVec.ofNat 32 x &&& (BitVec.ofNat 32 y ^^^ (-1 : Int32).toBitVec) = BitVec.ofNat 32 (sw_an x y)
  rw [show (-1 : Int32).toBitVec = BitVec.allOnes 32 from by decide]
  apply BitVec.eq_of_getLsbD_eq
  intro i hi
  simp only [BitVec.getLsbD_and, BitVec.getLsbD_xor, BitVec.getLsbD_ofNat, BitVec.getLsbD_allOnes, hi, decide_true, Bool.true_and, sw_an_bit]
  cases x.testBit i <;> cases y.testBit i <;> rfl
theorem sn_p {i : Nat} (hi : i < 31) : (nI 1) <<< (nI i &&& 31) = nI (2 ^ i) := by
  have h : 2 ^ i < 2 ^ 31 := Nat.pow_lt_pow_right (by decide) hi
  rw [sn_shl (by omega) (by omega), Nat.one_mul]
theorem sn_neg : ∀ c, c < 64 → nI c &&& (-(nI c)) = nI (sw_lo c) := by decide +kernel
theorem sn_i2b : ∀ v, v < 128 → (nI v).toInt8.toInt32 = nI v := by decide +kernel
theorem sn_nb : ∀ v, v < 128 → vp_nar .byte (nI v) = nI v := by decide +kernel
theorem sn_nz : ∀ v, v < 2 → vp_nar .boolean (nI v) = nI v := by decide +kernel
theorem sn_zb (b : Bool) : narrow .boolean (.int (nI b.toNat)) = .int (nI b.toNat) := by cases b <;> rfl
theorem sn_inc (i : Nat) : nI i + Int32.ofInt 1 = nI (i + 1) := nI_1 i
theorem sn_b0 {b : Bool} : nI b.toNat = 0 ↔ b = false := by cases b <;> decide
theorem sn_b1 {b : Bool} : nI b.toNat = nI 1 ↔ b = true := by cases b <;> decide
theorem sn_bb {b d : Bool} : nI b.toNat = nI d.toNat ↔ b = d := by cases b <;> cases d <;> decide
/-- -1, or a number -/
def sw_ov (o : Option Nat) : Int32 := match o with
  | none => -1
  | some n => nI n
theorem sn_ov_neg {o : Option Nat} (h : ∀ n, o = some n → n < 2 ^ 31) : sw_ov o < 0 ↔ o = none := by
  cases o with
  | none => exact ⟨fun _ => rfl, fun _ => by decide⟩
  | some n => exact ⟨fun q => absurd q (nI_pos (h n rfl)), fun q => by cases q⟩
theorem sn_ov_pos {o : Option Nat} (h : ∀ n, o = some n → n < 2 ^ 31) : 0 ≤ sw_ov o ↔ ∃ n, o = some n := by
  cases o with
  | none => exact ⟨fun q => absurd q (by decide), fun ⟨n, q⟩ => by cases q⟩
  | some n => exact ⟨fun _ => ⟨n, rfl⟩, fun _ => nI_pos' (h n rfl)⟩
/-- an int within 0 .. n - 1 -/
def sw_inb (x : Int32) (n : Nat) : Bool := decide (0 ≤ x) && decide (x < nI n)
theorem sn_in_t {x : Int32} {n : Nat} (hn : n < 2 ^ 31) (h : sw_inb x n = true) : ∃ j, j < n ∧ x = nI j := by
  unfold sw_inb at h
  rw [Bool.and_eq_true] at h
  have h1 : 0 ≤ x := by simpa using h.1
  have h2 : x < nI n := by simpa using h.2
  rcases pk_ix x hn with q | q | q
  · rw [Int32.lt_iff_toInt_lt] at q
    rw [Int32.le_iff_toInt_le] at h1
    omega
  · rw [Int32.le_iff_toInt_le] at q
    rw [Int32.lt_iff_toInt_lt] at h2
    omega
  · exact q
theorem sn_in_nI {j n : Nat} (hj : j < n) (hn : n < 2 ^ 31) : sw_inb (nI j) n = true := by
  unfold sw_inb
  rw [decide_eq_true (nI_pos' (by omega)), decide_eq_true (nI_lt hj hn)]
  rfl
theorem sn_in_neg {x : Int32} {n : Nat} (h : x < 0) : sw_inb x n = false := by
  unfold sw_inb
  have : ¬ 0 ≤ x := by
    rw [Int32.le_iff_toInt_le]
    rw [Int32.lt_iff_toInt_lt] at h
    omega
  rw [decide_eq_false this]
  rfl
theorem sn_in_ge {x : Int32} {n : Nat} (h : nI n ≤ x) : sw_inb x n = false := by
  unfold sw_inb
  have : ¬ x < nI n := by
    rw [Int32.lt_iff_toInt_lt]
    rw [Int32.le_iff_toInt_le] at h
    omega
  rw [decide_eq_false this, Bool.and_false]
theorem sn_in_ok {x : Int32} {n : Nat} (h1 : ¬ x < 0) (h2 : ¬ nI n ≤ x) : sw_inb x n = true := by
  unfold sw_inb
  have a1 : 0 ≤ x := by
    rw [Int32.le_iff_toInt_le]
    rw [Int32.lt_iff_toInt_lt] at h1
    omega
  have a2 : x < nI n := by
    rw [Int32.lt_iff_toInt_lt]
    rw [Int32.le_iff_toInt_le] at h2
    omega
  rw [decide_eq_true a1, decide_eq_true a2]
  rfl
/-- is street x there -/
def sw_has (p : Nat) (x : Int32) : Bool := sw_inb x 10 && p.testBit x.toNatClampNeg
theorem sn_has_nI (p : Nat) {s : Nat} (hs : s < 10) : sw_has p (nI s) = p.testBit s := by
  unfold sw_has
  rw [sn_in_nI hs (by decide), nI_clamp (by omega), Bool.true_and]
theorem sn_has_t {p : Nat} {x : Int32} (h : sw_has p x = true) : ∃ s, s < 10 ∧ x = nI s ∧ p.testBit s = true := by
  have h0 := h
  unfold sw_has at h0
  rw [Bool.and_eq_true] at h0
  obtain ⟨s, h1, h2⟩ := sn_in_t (by decide) h0.1
  subst h2
  rw [sn_has_nI p h1] at h
  exact ⟨s, h1, rfl, h⟩
/-- contents of an array -/
def sw_A (f : Nat → Nat) : Nat → Int32 := fun j => nI (f j)
theorem sn_A_at (f : Nat → Nat) {i : Nat} (hi : i < 2 ^ 31) : sw_A f (nI i).toNatClampNeg = nI (f i) := by
  unfold sw_A
  rw [nI_clamp hi]
theorem sn_A_up (f : Nat → Nat) {i v : Nat} (hi : i < 2 ^ 31) {x : Int32} (hx : x = nI v) : upd (sw_A f) (nI i).toNatClampNeg x = sw_A (va_up f i v) := by
  rw [nI_clamp hi, hx]
  funext j
  unfold upd sw_A va_up
  split <;> rfl
/-- which streets are there, as an array -/
def sw_bf (p : Nat) : Nat → Nat := fun j => (p.testBit j).toNat
theorem sn_bf_in (p s : Nat) : va_up (sw_bf p) s 1 = sw_bf (p ||| 2 ^ s) := by
  funext j
  unfold va_up sw_bf
  rw [Nat.testBit_or, Nat.testBit_two_pow]
  by_cases e : j = s
  · subst e
    simp
  · have e2 : ¬ s = j := fun q => e q.symm
    simp [e, e2]
theorem sn_bf_out (p s : Nat) : va_up (sw_bf p) s 0 = sw_bf (sw_an p (2 ^ s)) := by
  funext j
  unfold va_up sw_bf
  rw [sw_an_bit, Nat.testBit_two_pow]
  by_cases e : j = s
  · subst e
    simp
  · have e2 : ¬ s = j := fun q => e q.symm
    simp [e, e2]
theorem sn_up_back (f : Nat → Nat) (s : Nat) (h : 0 < f s) : va_up (va_up f s (f s - 1)) s (f s - 1 + 1) = f := by
  funext j
  unfold va_up
  split
  · subst_vars
    omega
  · rfl
theorem sn_up_at (f : Nat → Nat) (s v : Nat) : va_up f s v s = v := if_pos rfl
end
section
/-! ROWS over the kit, one an instruction, at the level of natural numbers -/
section SWR
variable {p : Program} {l : Launch} {e : Env} {R : Room} {s : State} {m : MethodId} {args : Array Value} {below : List Frame} {meth : Method} {c : Code} {H : Heap} {locs : List Loc} {cells slots : Nat} {Q : State → Prop}
variable {cc : ByteArray} {pc : Nat} {ls : Array Slot} {rest : List Value}

theorem sr_add (hx : p.tables.exec = Jvm.exec) (hb : c.code = cc) {x y : Nat} (hdg : decode cc pc = .ok (.iadd, 1)) (k : W p l e R s m args below meth c H locs cells slots Q (F0 m (pc + 1) ls (.int (nI (x + y)) :: rest))) : W p l e R s m args below meth c H locs cells slots Q (F0 m pc ls (.int (nI y) :: .int (nI x) :: rest)) := lv_iadd hx hb hdg (by rw [nI_add]; exact k)
theorem sr_sub (hx : p.tables.exec = Jvm.exec) (hb : c.code = cc) {x y : Nat} (h : y ≤ x) (hdg : decode cc pc = .ok (.isub, 1)) (k : W p l e R s m args below meth c H locs cells slots Q (F0 m (pc + 1) ls (.int (nI (x - y)) :: rest))) : W p l e R s m args below meth c H locs cells slots Q (F0 m pc ls (.int (nI y) :: .int (nI x) :: rest)) := lv_isub hx hb hdg (by rw [pk_sub h]; exact k)
theorem sr_mul (hx : p.tables.exec = Jvm.exec) (hb : c.code = cc) {x y : Nat} (hdg : decode cc pc = .ok (.imul, 1)) (k : W p l e R s m args below meth c H locs cells slots Q (F0 m (pc + 1) ls (.int (nI (x * y)) :: rest))) : W p l e R s m args below meth c H locs cells slots Q (F0 m pc ls (.int (nI y) :: .int (nI x) :: rest)) := lv_imul hx hb hdg (by rw [pk_mul]; exact k)
theorem sr_and (hx : p.tables.exec = Jvm.exec) (hb : c.code = cc) {x y : Nat} (hdg : decode cc pc = .ok (.iand, 1)) (k : W p l e R s m args below meth c H locs cells slots Q (F0 m (pc + 1) ls (.int (nI (x &&& y)) :: rest))) : W p l e R s m args below meth c H locs cells slots Q (F0 m pc ls (.int (nI y) :: .int (nI x) :: rest)) := lv_iand hx hb hdg (by rw [sn_and]; exact k)
theorem sr_or (hx : p.tables.exec = Jvm.exec) (hb : c.code = cc) {x y : Nat} (hdg : decode cc pc = .ok (.ior, 1)) (k : W p l e R s m args below meth c H locs cells slots Q (F0 m (pc + 1) ls (.int (nI (x ||| y)) :: rest))) : W p l e R s m args below meth c H locs cells slots Q (F0 m pc ls (.int (nI y) :: .int (nI x) :: rest)) := lv_ior hx hb hdg (by rw [sn_or]; exact k)
theorem sr_xor (hx : p.tables.exec = Jvm.exec) (hb : c.code = cc) {x y : Nat} (hdg : decode cc pc = .ok (.ixor, 1)) (k : W p l e R s m args below meth c H locs cells slots Q (F0 m (pc + 1) ls (.int (nI (x ^^^ y)) :: rest))) : W p l e R s m args below meth c H locs cells slots Q (F0 m pc ls (.int (nI y) :: .int (nI x) :: rest)) := lv_ixor hx hb hdg (by rw [sn_xor]; exact k)
theorem sr_div (hx : p.tables.exec = Jvm.exec) (hb : c.code = cc) {x : Nat} (h : x < 2 ^ 31) (hdg : decode cc pc = .ok (.idiv, 1)) (k : W p l e R s m args below meth c H locs cells slots Q (F0 m (pc + 1) ls (.int (nI (x / 6)) :: rest))) : W p l e R s m args below meth c H locs cells slots Q (F0 m pc ls (.int (nI 6) :: .int (nI x) :: rest)) := lv_idiv hx hb hdg (nI_ne0 (by decide) (by decide)) (by rw [pk_div h (by decide) (by decide)]; exact k)
theorem sr_rem (hx : p.tables.exec = Jvm.exec) (hb : c.code = cc) {x : Nat} (h : x < 2 ^ 31) (hdg : decode cc pc = .ok (.irem, 1)) (k : W p l e R s m args below meth c H locs cells slots Q (F0 m (pc + 1) ls (.int (nI (x % 6)) :: rest))) : W p l e R s m args below meth c H locs cells slots Q (F0 m pc ls (.int (nI 6) :: .int (nI x) :: rest)) := lv_irem hx hb hdg (nI_ne0 (by decide) (by decide)) (by rw [pk_rem h (by decide) (by decide)]; exact k)
theorem sr_shl (hx : p.tables.exec = Jvm.exec) (hb : c.code = cc) {x : Nat} (h : x < 31) (hdg : decode cc pc = .ok (.ishl, 1)) (k : W p l e R s m args below meth c H locs cells slots Q (F0 m (pc + 1) ls (.int (nI (2 ^ x)) :: rest))) : W p l e R s m args below meth c H locs cells slots Q (F0 m pc ls (.int (nI x) :: .int (nI 1) :: rest)) := lv_ishl hx hb hdg (by rw [sn_p h]; exact k)
/-- (x >> y) & 1 -/
theorem sr_bit (hx : p.tables.exec = Jvm.exec) (hb : c.code = cc) {x y : Nat} (h1 : x < 2 ^ 31) (h2 : y < 32) (d1 : decode cc pc = .ok (.ishr, 1)) (d2 : decode cc (pc + 1) = .ok (.iconst 1, 1)) (d3 : decode cc (pc + 1 + 1) = .ok (.iand, 1)) (k : W p l e R s m args below meth c H locs cells slots Q (F0 m (pc + 1 + 1 + 1) ls (.int (nI (x.testBit y).toNat) :: rest))) : W p l e R s m args below meth c H locs cells slots Q (F0 m pc ls (.int (nI y) :: .int (nI x) :: rest)) := lv_ishr hx hb d1 (lv_iconst (v := nI 1) hx hb d2 (by decide) (lv_iand hx hb d3 (by rw [sn_bit h1 h2]; exact k)))
/-- x & ~y -/
theorem sr_not (hx : p.tables.exec = Jvm.exec) (hb : c.code = cc) {x y : Nat} (d1 : decode cc pc = .ok (.iconst (-1), 1)) (d2 : decode cc (pc + 1) = .ok (.ixor, 1)) (d3 : decode cc (pc + 1 + 1) = .ok (.iand, 1)) (k : W p l e R s m args below meth c H locs cells slots Q (F0 m (pc + 1 + 1 + 1) ls (.int (nI (sw_an x y)) :: rest))) : W p l e R s m args below meth c H locs cells slots Q (F0 m pc ls (.int (nI y) :: .int (nI x) :: rest)) := lv_iconst (v := -1) hx hb d1 (by decide) (lv_ixor hx hb d2 (lv_iand hx hb d3 (by rw [sn_not]; exact k)))
theorem sr_ge (hx : p.tables.exec = Jvm.exec) (hb : c.code = cc) {x y : Nat} {off : Int} {tgt : Nat} (h1 : x < 2 ^ 31) (h2 : y < 2 ^ 31) (hdg : decode cc pc = .ok (.if_icmp .ge off, 3)) (ht : (pc : Int) + off = (tgt : Int)) (kt : y ≤ x → W p l e R s m args below meth c H locs cells slots Q (F0 m tgt ls rest)) (kf : x < y → W p l e R s m args below meth c H locs cells slots Q (F0 m (pc + 3) ls rest)) : W p l e R s m args below meth c H locs cells slots Q (F0 m pc ls (.int (nI y) :: .int (nI x) :: rest)) := lv_icmp_ge hx hb hdg ht (fun q => kt ((nI_leI h2 h1).mp q)) (fun q => kf (by rw [nI_leI h2 h1] at q; omega))
theorem sr_lt (hx : p.tables.exec = Jvm.exec) (hb : c.code = cc) {x y : Nat} {off : Int} {tgt : Nat} (h1 : x < 2 ^ 31) (h2 : y < 2 ^ 31) (hdg : decode cc pc = .ok (.if_icmp .lt off, 3)) (ht : (pc : Int) + off = (tgt : Int)) (kt : x < y → W p l e R s m args below meth c H locs cells slots Q (F0 m tgt ls rest)) (kf : y ≤ x → W p l e R s m args below meth c H locs cells slots Q (F0 m (pc + 3) ls rest)) : W p l e R s m args below meth c H locs cells slots Q (F0 m pc ls (.int (nI y) :: .int (nI x) :: rest)) := lv_icmp_lt hx hb hdg ht (fun q => kt ((nI_ltI h1 h2).mp q)) (fun q => kf (by rw [nI_ltI h1 h2] at q; omega))
theorem sr_gt (hx : p.tables.exec = Jvm.exec) (hb : c.code = cc) {x y : Nat} {off : Int} {tgt : Nat} (h1 : x < 2 ^ 31) (h2 : y < 2 ^ 31) (hdg : decode cc pc = .ok (.if_icmp .gt off, 3)) (ht : (pc : Int) + off = (tgt : Int)) (kt : y < x → W p l e R s m args below meth c H locs cells slots Q (F0 m tgt ls rest)) (kf : x ≤ y → W p l e R s m args below meth c H locs cells slots Q (F0 m (pc + 3) ls rest)) : W p l e R s m args below meth c H locs cells slots Q (F0 m pc ls (.int (nI y) :: .int (nI x) :: rest)) := lv_icmp_gt hx hb hdg ht (fun q => kt ((nI_ltI h2 h1).mp q)) (fun q => kf (by rw [nI_ltI h2 h1] at q; omega))
theorem sr_le (hx : p.tables.exec = Jvm.exec) (hb : c.code = cc) {x y : Nat} {off : Int} {tgt : Nat} (h1 : x < 2 ^ 31) (h2 : y < 2 ^ 31) (hdg : decode cc pc = .ok (.if_icmp .le off, 3)) (ht : (pc : Int) + off = (tgt : Int)) (kt : x ≤ y → W p l e R s m args below meth c H locs cells slots Q (F0 m tgt ls rest)) (kf : y < x → W p l e R s m args below meth c H locs cells slots Q (F0 m (pc + 3) ls rest)) : W p l e R s m args below meth c H locs cells slots Q (F0 m pc ls (.int (nI y) :: .int (nI x) :: rest)) := lv_icmp_le hx hb hdg ht (fun q => kt ((nI_leI h1 h2).mp q)) (fun q => kf (by rw [nI_leI h1 h2] at q; omega))
theorem sr_eq (hx : p.tables.exec = Jvm.exec) (hb : c.code = cc) {x y : Nat} {off : Int} {tgt : Nat} (h1 : x < 2 ^ 31) (h2 : y < 2 ^ 31) (hdg : decode cc pc = .ok (.if_icmp .eq off, 3)) (ht : (pc : Int) + off = (tgt : Int)) (kt : x = y → W p l e R s m args below meth c H locs cells slots Q (F0 m tgt ls rest)) (kf : x ≠ y → W p l e R s m args below meth c H locs cells slots Q (F0 m (pc + 3) ls rest)) : W p l e R s m args below meth c H locs cells slots Q (F0 m pc ls (.int (nI y) :: .int (nI x) :: rest)) := lv_icmp_eq hx hb hdg ht (fun q => kt ((nI_eq h1 h2).mp q)) (fun q => kf (fun z => q ((nI_eq h1 h2).mpr z)))
theorem sr_ne (hx : p.tables.exec = Jvm.exec) (hb : c.code = cc) {x y : Nat} {off : Int} {tgt : Nat} (h1 : x < 2 ^ 31) (h2 : y < 2 ^ 31) (hdg : decode cc pc = .ok (.if_icmp .ne off, 3)) (ht : (pc : Int) + off = (tgt : Int)) (kt : x ≠ y → W p l e R s m args below meth c H locs cells slots Q (F0 m tgt ls rest)) (kf : x = y → W p l e R s m args below meth c H locs cells slots Q (F0 m (pc + 3) ls rest)) : W p l e R s m args below meth c H locs cells slots Q (F0 m pc ls (.int (nI y) :: .int (nI x) :: rest)) := lv_icmp_ne hx hb hdg ht (fun q => kt (fun z => q ((nI_eq h1 h2).mpr z))) (fun q => kf ((nI_eq h1 h2).mp q))
theorem sr_eq0 (hx : p.tables.exec = Jvm.exec) (hb : c.code = cc) {x : Nat} {off : Int} {tgt : Nat} (h1 : x < 2 ^ 31) (hdg : decode cc pc = .ok (.ifCond .eq off, 3)) (ht : (pc : Int) + off = (tgt : Int)) (kt : x = 0 → W p l e R s m args below meth c H locs cells slots Q (F0 m tgt ls rest)) (kf : x ≠ 0 → W p l e R s m args below meth c H locs cells slots Q (F0 m (pc + 3) ls rest)) : W p l e R s m args below meth c H locs cells slots Q (F0 m pc ls (.int (nI x) :: rest)) := lv_if_eq hx hb hdg ht (fun q => kt ((nI_eq h1 (by decide)).mp q)) (fun q => kf (fun z => q (by rw [z]; rfl)))
theorem sr_ne0 (hx : p.tables.exec = Jvm.exec) (hb : c.code = cc) {x : Nat} {off : Int} {tgt : Nat} (h1 : x < 2 ^ 31) (hdg : decode cc pc = .ok (.ifCond .ne off, 3)) (ht : (pc : Int) + off = (tgt : Int)) (kt : x ≠ 0 → W p l e R s m args below meth c H locs cells slots Q (F0 m tgt ls rest)) (kf : x = 0 → W p l e R s m args below meth c H locs cells slots Q (F0 m (pc + 3) ls rest)) : W p l e R s m args below meth c H locs cells slots Q (F0 m pc ls (.int (nI x) :: rest)) := lv_if_ne hx hb hdg ht (fun q => kt (fun z => q (by rw [z]; rfl))) (fun q => kf ((nI_eq h1 (by decide)).mp q))
theorem sr_le0 (hx : p.tables.exec = Jvm.exec) (hb : c.code = cc) {x : Nat} {off : Int} {tgt : Nat} (h1 : x < 2 ^ 31) (hdg : decode cc pc = .ok (.ifCond .le off, 3)) (ht : (pc : Int) + off = (tgt : Int)) (kt : x = 0 → W p l e R s m args below meth c H locs cells slots Q (F0 m tgt ls rest)) (kf : 0 < x → W p l e R s m args below meth c H locs cells slots Q (F0 m (pc + 3) ls rest)) : W p l e R s m args below meth c H locs cells slots Q (F0 m pc ls (.int (nI x) :: rest)) := lv_if_le hx hb hdg ht (fun q => kt (by have := (nI_leI h1 (by decide : 0 < 2 ^ 31)).mp q; omega)) (fun q => kf (by rcases Nat.eq_zero_or_pos x with z | z; exact absurd (by rw [z]; decide) q; exact z))
theorem sr_bf (hx : p.tables.exec = Jvm.exec) (hb : c.code = cc) {b : Bool} {off : Int} {tgt : Nat} (hdg : decode cc pc = .ok (.ifCond .eq off, 3)) (ht : (pc : Int) + off = (tgt : Int)) (kt : b = false → W p l e R s m args below meth c H locs cells slots Q (F0 m tgt ls rest)) (kf : b = true → W p l e R s m args below meth c H locs cells slots Q (F0 m (pc + 3) ls rest)) : W p l e R s m args below meth c H locs cells slots Q (F0 m pc ls (.int (nI b.toNat) :: rest)) := lv_if_eq hx hb hdg ht (fun q => kt (sn_b0.mp q)) (fun q => kf (by rw [sn_b0] at q; simpa using q))
theorem sr_bt (hx : p.tables.exec = Jvm.exec) (hb : c.code = cc) {b : Bool} {off : Int} {tgt : Nat} (hdg : decode cc pc = .ok (.ifCond .ne off, 3)) (ht : (pc : Int) + off = (tgt : Int)) (kt : b = true → W p l e R s m args below meth c H locs cells slots Q (F0 m tgt ls rest)) (kf : b = false → W p l e R s m args below meth c H locs cells slots Q (F0 m (pc + 3) ls rest)) : W p l e R s m args below meth c H locs cells slots Q (F0 m pc ls (.int (nI b.toNat) :: rest)) := lv_if_ne hx hb hdg ht (fun q => kt (by rw [sn_b0] at q; simpa using q)) (fun q => kf (sn_b0.mp q))
theorem sr_b1 (hx : p.tables.exec = Jvm.exec) (hb : c.code = cc) {b : Bool} {off : Int} {tgt : Nat} (hdg : decode cc pc = .ok (.if_icmp .ne off, 3)) (ht : (pc : Int) + off = (tgt : Int)) (kt : b = false → W p l e R s m args below meth c H locs cells slots Q (F0 m tgt ls rest)) (kf : b = true → W p l e R s m args below meth c H locs cells slots Q (F0 m (pc + 3) ls rest)) : W p l e R s m args below meth c H locs cells slots Q (F0 m pc ls (.int (nI 1) :: .int (nI b.toNat) :: rest)) := lv_icmp_ne hx hb hdg ht (fun q => kt (by rw [sn_b1] at q; simpa using q)) (fun q => kf (sn_b1.mp q))
end SWR
/-! WORLDS: an object of each class with its six arrays, at addresses g 0 .. g 6; array classes k 1 .. k 6 -/
abbrev sw_cl : List vw_C := [(RX0, TX0, 7), (RX1, TX1, 6)]
abbrev sw_xw (g : Nat → Nat) (k : Nat → ClassId) (p : Nat) (a b ln w pg lf : Nat → Nat) : va_W := [(g 0, .inr (0, [.int (nI p), .ref (g 1), .ref (g 2), .ref (g 3), .ref (g 4), .ref (g 5), .ref (g 6)])), (g 1, .inl (k 1, 10, .inl (sw_A a))), (g 2, .inl (k 2, 10, .inl (sw_A b))), (g 3, .inl (k 3, 10, .inl (sw_A ln))), (g 4, .inl (k 4, 36, .inl (sw_A w))), (g 5, .inl (k 5, 64, .inl (sw_A pg))), (g 6, .inl (k 6, 10, .inl (sw_A lf)))]
abbrev sw_mw (g : Nat → Nat) (k : Nat → ClassId) (p : Nat) (a b ln lf nr : Nat → Nat) : va_W := [(g 0, .inr (1, [.ref (g 1), .ref (g 2), .ref (g 3), .ref (g 4), .ref (g 5), .ref (g 6)])), (g 1, .inl (k 1, 10, .inl (sw_A (sw_bf p)))), (g 2, .inl (k 2, 10, .inl (sw_A a))), (g 3, .inl (k 3, 10, .inl (sw_A b))), (g 4, .inl (k 4, 10, .inl (sw_A ln))), (g 5, .inl (k 5, 10, .inl (sw_A lf))), (g 6, .inl (k 6, 6, .inl (sw_A nr)))]
abbrev sw_xt (k : Nat → ClassId) : List (ClassId × FieldType) := [(k 1, .byte), (k 2, .byte), (k 3, .byte), (k 4, .int), (k 5, .int), (k 6, .byte)]
abbrev sw_mt (k : Nat → ClassId) : List (ClassId × FieldType) := [(k 1, .boolean), (k 2, .int), (k 3, .int), (k 4, .int), (k 5, .int), (k 6, .int)]
def sw_XP (D : va_G) (g : Nat → Nat) (k : Nat → ClassId) (p : Nat) (a b ln w pg lf : Nat → Nat) (H : Heap) : Prop := va_P D sw_cl (sw_xw g k p a b ln w pg lf) H
def sw_MP (D : va_G) (g : Nat → Nat) (k : Nat → ClassId) (p : Nat) (a b ln lf nr : Nat → Nat) (H : Heap) : Prop := va_P D sw_cl (sw_mw g k p a b ln lf nr) H
def sw_XK (D : va_G) (k : Nat → ClassId) (U : State) : Prop := va_K D sw_cl (sw_xt k) U
def sw_MK (D : va_G) (k : Nat → ClassId) (U : State) : Prop := va_K D sw_cl (sw_mt k) U
/-- the addresses are apart -/
def sw_XD (g : Nat → Nat) : Prop := ∀ i j, i < 7 → j < 7 → g i = g j → i = j
def sw_XA (g : Nat → Nat) : Nat → Prop := fun q => ∃ i, i < 7 ∧ q = g i
theorem sw_xD {g : Nat → Nat} {k : Nat → ClassId} {p : Nat} {a b ln w pg lf : Nat → Nat} (hg : sw_XD g) : va_D (sw_XA g) (sw_xw g k p a b ln w pg lf) := by
  have key : ∀ (i : Nat) (q : Nat × va_E), (sw_xw g k p a b ln w pg lf)[i]? = some q → i < 7 ∧ q.1 = g i := by
    intro i q h
    match i, h with
    | 0, h => cases h; exact ⟨by decide, rfl⟩
    | 1, h => cases h; exact ⟨by decide, rfl⟩
    | 2, h => cases h; exact ⟨by decide, rfl⟩
    | 3, h => cases h; exact ⟨by decide, rfl⟩
    | 4, h => cases h; exact ⟨by decide, rfl⟩
    | 5, h => cases h; exact ⟨by decide, rfl⟩
    | 6, h => cases h; exact ⟨by decide, rfl⟩
    | n + 7, h => simp at h
  refine ⟨fun i j p q h1 h2 h3 => ?_, fun i q h => ⟨i, key i q h⟩⟩
  obtain ⟨a1, a2⟩ := key i p h1
  obtain ⟨b1, b2⟩ := key j q h2
  exact hg i j a1 b1 (by rw [← a2, ← b2]; exact h3)
theorem sw_mD {g : Nat → Nat} {k : Nat → ClassId} {p : Nat} {a b ln lf nr : Nat → Nat} (hg : sw_XD g) : va_D (sw_XA g) (sw_mw g k p a b ln lf nr) := by
  have key : ∀ (i : Nat) (q : Nat × va_E), (sw_mw g k p a b ln lf nr)[i]? = some q → i < 7 ∧ q.1 = g i := by
    intro i q h
    match i, h with
    | 0, h => cases h; exact ⟨by decide, rfl⟩
    | 1, h => cases h; exact ⟨by decide, rfl⟩
    | 2, h => cases h; exact ⟨by decide, rfl⟩
    | 3, h => cases h; exact ⟨by decide, rfl⟩
    | 4, h => cases h; exact ⟨by decide, rfl⟩
    | 5, h => cases h; exact ⟨by decide, rfl⟩
    | 6, h => cases h; exact ⟨by decide, rfl⟩
    | n + 7, h => simp at h
  refine ⟨fun i j p q h1 h2 h3 => ?_, fun i q h => ⟨i, key i q h⟩⟩
  obtain ⟨a1, a2⟩ := key i p h1
  obtain ⟨b1, b2⟩ := key j q h2
  exact hg i j a1 b1 (by rw [← a2, ← b2]; exact h3)
theorem sw_XK.moved {D : va_G} {k : Nat → ClassId} {u U : State} (hvm : u.vm.Alike U.vm) (h : sw_XK D k u) : sw_XK D k U := va_K.moved hvm h
theorem sw_MK.moved {D : va_G} {k : Nat → ClassId} {u U : State} (hvm : u.vm.Alike U.vm) (h : sw_MK D k u) : sw_MK D k U := va_K.moved hvm h
section SWX
variable {p : Program} {l : Launch} {e : Env} {R : Room} {s : State} {m : MethodId} {args : Array Value} {below : List Frame} {meth : Method} {c : Code} {H : Heap} {locs : List Loc} {cells slots : Nat} {Q : State → Prop}
variable {cc : ByteArray} {pc : Nat} {ls : Array Slot} {rest : List Value}
variable {D : va_G} {g : Nat → Nat} {k : Nat → ClassId} {p0 : Nat} {a b ln w pg lf nr : Nat → Nat} {H0 : Heap}
theorem xg0 (hx : p.tables.exec = Jvm.exec) (hb : c.code = cc) (hts : ∀ w ∈ lw_all, w.before args s = true) (hown : s.vm.findClass RX0 = some m.cls) (hK : sw_XK D k s) (hP : sw_XP D g k p0 a b ln w pg lf H) (hdg : decode cc pc = .ok (.getfield 29, 3)) (kk : W p l e R s m args below meth c H locs cells slots Q (F0 m (pc + 3) ls (.int (nI p0) :: rest))) : W p l e R s m args below meth c H locs cells slots Q (F0 m pc ls (.ref (g 0) :: rest)) := va_get (D := D) (ci := 0) (v := .int (nI p0)) (C := RX0) (T := TX0) (N := 7) hx hb hts in_X0 hown hK hP 0 rfl rfl 0 (by decide) (hts _ q31) (fun _ h9 => h9) rfl hdg kk
theorem xg1 (hx : p.tables.exec = Jvm.exec) (hb : c.code = cc) (hts : ∀ w ∈ lw_all, w.before args s = true) (hown : s.vm.findClass RX0 = some m.cls) (hK : sw_XK D k s) (hP : sw_XP D g k p0 a b ln w pg lf H) (hdg : decode cc pc = .ok (.getfield 7, 3)) (kk : W p l e R s m args below meth c H locs cells slots Q (F0 m (pc + 3) ls (.ref (g 1) :: rest))) : W p l e R s m args below meth c H locs cells slots Q (F0 m pc ls (.ref (g 0) :: rest)) := va_get (D := D) (ci := 0) (v := .ref (g 1)) (C := RX0) (T := TX0) (N := 7) hx hb hts in_X0 hown hK hP 0 rfl rfl 1 (by decide) (hts _ q32) (fun _ h9 => h9) rfl hdg kk
theorem xg2 (hx : p.tables.exec = Jvm.exec) (hb : c.code = cc) (hts : ∀ w ∈ lw_all, w.before args s = true) (hown : s.vm.findClass RX0 = some m.cls) (hK : sw_XK D k s) (hP : sw_XP D g k p0 a b ln w pg lf H) (hdg : decode cc pc = .ok (.getfield 13, 3)) (kk : W p l e R s m args below meth c H locs cells slots Q (F0 m (pc + 3) ls (.ref (g 2) :: rest))) : W p l e R s m args below meth c H locs cells slots Q (F0 m pc ls (.ref (g 0) :: rest)) := va_get (D := D) (ci := 0) (v := .ref (g 2)) (C := RX0) (T := TX0) (N := 7) hx hb hts in_X0 hown hK hP 0 rfl rfl 2 (by decide) (hts _ q33) (fun _ h9 => h9) rfl hdg kk
theorem xg3 (hx : p.tables.exec = Jvm.exec) (hb : c.code = cc) (hts : ∀ w ∈ lw_all, w.before args s = true) (hown : s.vm.findClass RX0 = some m.cls) (hK : sw_XK D k s) (hP : sw_XP D g k p0 a b ln w pg lf H) (hdg : decode cc pc = .ok (.getfield 16, 3)) (kk : W p l e R s m args below meth c H locs cells slots Q (F0 m (pc + 3) ls (.ref (g 3) :: rest))) : W p l e R s m args below meth c H locs cells slots Q (F0 m pc ls (.ref (g 0) :: rest)) := va_get (D := D) (ci := 0) (v := .ref (g 3)) (C := RX0) (T := TX0) (N := 7) hx hb hts in_X0 hown hK hP 0 rfl rfl 3 (by decide) (hts _ q34) (fun _ h9 => h9) rfl hdg kk
theorem xg4 (hx : p.tables.exec = Jvm.exec) (hb : c.code = cc) (hts : ∀ w ∈ lw_all, w.before args s = true) (hown : s.vm.findClass RX0 = some m.cls) (hK : sw_XK D k s) (hP : sw_XP D g k p0 a b ln w pg lf H) (hdg : decode cc pc = .ok (.getfield 19, 3)) (kk : W p l e R s m args below meth c H locs cells slots Q (F0 m (pc + 3) ls (.ref (g 4) :: rest))) : W p l e R s m args below meth c H locs cells slots Q (F0 m pc ls (.ref (g 0) :: rest)) := va_get (D := D) (ci := 0) (v := .ref (g 4)) (C := RX0) (T := TX0) (N := 7) hx hb hts in_X0 hown hK hP 0 rfl rfl 4 (by decide) (hts _ q35) (fun _ h9 => h9) rfl hdg kk
theorem xg5 (hx : p.tables.exec = Jvm.exec) (hb : c.code = cc) (hts : ∀ w ∈ lw_all, w.before args s = true) (hown : s.vm.findClass RX0 = some m.cls) (hK : sw_XK D k s) (hP : sw_XP D g k p0 a b ln w pg lf H) (hdg : decode cc pc = .ok (.getfield 23, 3)) (kk : W p l e R s m args below meth c H locs cells slots Q (F0 m (pc + 3) ls (.ref (g 5) :: rest))) : W p l e R s m args below meth c H locs cells slots Q (F0 m pc ls (.ref (g 0) :: rest)) := va_get (D := D) (ci := 0) (v := .ref (g 5)) (C := RX0) (T := TX0) (N := 7) hx hb hts in_X0 hown hK hP 0 rfl rfl 5 (by decide) (hts _ q36) (fun _ h9 => h9) rfl hdg kk
theorem xg6 (hx : p.tables.exec = Jvm.exec) (hb : c.code = cc) (hts : ∀ w ∈ lw_all, w.before args s = true) (hown : s.vm.findClass RX0 = some m.cls) (hK : sw_XK D k s) (hP : sw_XP D g k p0 a b ln w pg lf H) (hdg : decode cc pc = .ok (.getfield 26, 3)) (kk : W p l e R s m args below meth c H locs cells slots Q (F0 m (pc + 3) ls (.ref (g 6) :: rest))) : W p l e R s m args below meth c H locs cells slots Q (F0 m pc ls (.ref (g 0) :: rest)) := va_get (D := D) (ci := 0) (v := .ref (g 6)) (C := RX0) (T := TX0) (N := 7) hx hb hts in_X0 hown hK hP 0 rfl rfl 6 (by decide) (hts _ q37) (fun _ h9 => h9) rfl hdg kk
theorem xl1 (hx : p.tables.exec = Jvm.exec) (hb : c.code = cc) (hK : sw_XK D k s) (hP : sw_XP D g k p0 a b ln w pg lf H) {i : Nat} (hi : i < 10) (hdg : decode cc pc = .ok (.baload, 1)) (kk : W p l e R s m args below meth c H locs cells slots Q (F0 m (pc + 1) ls (.int (nI (a i)) :: rest))) : W p l e R s m args below meth c H locs cells slots Q (F0 m pc ls (.int (nI i) :: .ref (g 1) :: rest)) := va_bald (f := sw_A a) hx hb hK hP 1 0 rfl rfl (vp_in_nI hi (by decide)) hdg (by rw [sn_A_at a (by omega)]; exact kk)
theorem xs1 (hx : p.tables.exec = Jvm.exec) (hb : c.code = cc) (hK : sw_XK D k s) (hP : sw_XP D g k p0 a b ln w pg lf H) (hg : sw_XD g) (hS : va_S (sw_XA g) H0 H locs) {i v : Nat} (hi : i < 10) (hv : v < 128) (hdg : decode cc pc = .ok (.bastore, 1)) (kk : ∀ (H : Heap) (locs : List Loc), sw_XP D g k p0 (va_up a i v) b ln w pg lf H → va_S (sw_XA g) H0 H locs → W p l e R s m args below meth c H locs cells slots Q (F0 m (pc + 1) ls rest)) : W p l e R s m args below meth c H locs cells slots Q (F0 m pc ls (.int (nI v) :: .int (nI i) :: .ref (g 1) :: rest)) := by
  refine va_bast (f := sw_A a) hx hb hK hP (sw_xD hg) hS 1 0 rfl rfl (vp_in_nI hi (by decide)) hdg (fun H1 locs1 h1 _ h3 => kk H1 locs1 ?_ h3)
  rw [sn_A_up a (by omega : i < 2 ^ 31) (sn_nb v hv : _ = nI v)] at h1
  exact h1
theorem xl2 (hx : p.tables.exec = Jvm.exec) (hb : c.code = cc) (hK : sw_XK D k s) (hP : sw_XP D g k p0 a b ln w pg lf H) {i : Nat} (hi : i < 10) (hdg : decode cc pc = .ok (.baload, 1)) (kk : W p l e R s m args below meth c H locs cells slots Q (F0 m (pc + 1) ls (.int (nI (b i)) :: rest))) : W p l e R s m args below meth c H locs cells slots Q (F0 m pc ls (.int (nI i) :: .ref (g 2) :: rest)) := va_bald (f := sw_A b) hx hb hK hP 2 1 rfl rfl (vp_in_nI hi (by decide)) hdg (by rw [sn_A_at b (by omega)]; exact kk)
theorem xs2 (hx : p.tables.exec = Jvm.exec) (hb : c.code = cc) (hK : sw_XK D k s) (hP : sw_XP D g k p0 a b ln w pg lf H) (hg : sw_XD g) (hS : va_S (sw_XA g) H0 H locs) {i v : Nat} (hi : i < 10) (hv : v < 128) (hdg : decode cc pc = .ok (.bastore, 1)) (kk : ∀ (H : Heap) (locs : List Loc), sw_XP D g k p0 a (va_up b i v) ln w pg lf H → va_S (sw_XA g) H0 H locs → W p l e R s m args below meth c H locs cells slots Q (F0 m (pc + 1) ls rest)) : W p l e R s m args below meth c H locs cells slots Q (F0 m pc ls (.int (nI v) :: .int (nI i) :: .ref (g 2) :: rest)) := by
  refine va_bast (f := sw_A b) hx hb hK hP (sw_xD hg) hS 2 1 rfl rfl (vp_in_nI hi (by decide)) hdg (fun H1 locs1 h1 _ h3 => kk H1 locs1 ?_ h3)
  rw [sn_A_up b (by omega : i < 2 ^ 31) (sn_nb v hv : _ = nI v)] at h1
  exact h1
theorem xl3 (hx : p.tables.exec = Jvm.exec) (hb : c.code = cc) (hK : sw_XK D k s) (hP : sw_XP D g k p0 a b ln w pg lf H) {i : Nat} (hi : i < 10) (hdg : decode cc pc = .ok (.baload, 1)) (kk : W p l e R s m args below meth c H locs cells slots Q (F0 m (pc + 1) ls (.int (nI (ln i)) :: rest))) : W p l e R s m args below meth c H locs cells slots Q (F0 m pc ls (.int (nI i) :: .ref (g 3) :: rest)) := va_bald (f := sw_A ln) hx hb hK hP 3 2 rfl rfl (vp_in_nI hi (by decide)) hdg (by rw [sn_A_at ln (by omega)]; exact kk)
theorem xs3 (hx : p.tables.exec = Jvm.exec) (hb : c.code = cc) (hK : sw_XK D k s) (hP : sw_XP D g k p0 a b ln w pg lf H) (hg : sw_XD g) (hS : va_S (sw_XA g) H0 H locs) {i v : Nat} (hi : i < 10) (hv : v < 128) (hdg : decode cc pc = .ok (.bastore, 1)) (kk : ∀ (H : Heap) (locs : List Loc), sw_XP D g k p0 a b (va_up ln i v) w pg lf H → va_S (sw_XA g) H0 H locs → W p l e R s m args below meth c H locs cells slots Q (F0 m (pc + 1) ls rest)) : W p l e R s m args below meth c H locs cells slots Q (F0 m pc ls (.int (nI v) :: .int (nI i) :: .ref (g 3) :: rest)) := by
  refine va_bast (f := sw_A ln) hx hb hK hP (sw_xD hg) hS 3 2 rfl rfl (vp_in_nI hi (by decide)) hdg (fun H1 locs1 h1 _ h3 => kk H1 locs1 ?_ h3)
  rw [sn_A_up ln (by omega : i < 2 ^ 31) (sn_nb v hv : _ = nI v)] at h1
  exact h1
theorem xl4 (hx : p.tables.exec = Jvm.exec) (hb : c.code = cc) (hK : sw_XK D k s) (hP : sw_XP D g k p0 a b ln w pg lf H) {i : Nat} (hi : i < 36) (hdg : decode cc pc = .ok (.iaload, 1)) (kk : W p l e R s m args below meth c H locs cells slots Q (F0 m (pc + 1) ls (.int (nI (w i)) :: rest))) : W p l e R s m args below meth c H locs cells slots Q (F0 m pc ls (.int (nI i) :: .ref (g 4) :: rest)) := va_iald (f := sw_A w) hx hb hK hP 4 3 rfl rfl (vp_in_nI hi (by decide)) hdg (by rw [sn_A_at w (by omega)]; exact kk)
theorem xs4 (hx : p.tables.exec = Jvm.exec) (hb : c.code = cc) (hK : sw_XK D k s) (hP : sw_XP D g k p0 a b ln w pg lf H) (hg : sw_XD g) (hS : va_S (sw_XA g) H0 H locs) {i v : Nat} (hi : i < 36) (hdg : decode cc pc = .ok (.iastore, 1)) (kk : ∀ (H : Heap) (locs : List Loc), sw_XP D g k p0 a b ln (va_up w i v) pg lf H → va_S (sw_XA g) H0 H locs → W p l e R s m args below meth c H locs cells slots Q (F0 m (pc + 1) ls rest)) : W p l e R s m args below meth c H locs cells slots Q (F0 m pc ls (.int (nI v) :: .int (nI i) :: .ref (g 4) :: rest)) := by
  refine va_iast (f := sw_A w) hx hb hK hP (sw_xD hg) hS 4 3 rfl rfl (vp_in_nI hi (by decide)) hdg (fun H1 locs1 h1 _ h3 => kk H1 locs1 ?_ h3)
  rw [sn_A_up w (by omega : i < 2 ^ 31) (rfl : _ = nI v)] at h1
  exact h1
theorem xl5 (hx : p.tables.exec = Jvm.exec) (hb : c.code = cc) (hK : sw_XK D k s) (hP : sw_XP D g k p0 a b ln w pg lf H) {i : Nat} (hi : i < 64) (hdg : decode cc pc = .ok (.iaload, 1)) (kk : W p l e R s m args below meth c H locs cells slots Q (F0 m (pc + 1) ls (.int (nI (pg i)) :: rest))) : W p l e R s m args below meth c H locs cells slots Q (F0 m pc ls (.int (nI i) :: .ref (g 5) :: rest)) := va_iald (f := sw_A pg) hx hb hK hP 5 4 rfl rfl (vp_in_nI hi (by decide)) hdg (by rw [sn_A_at pg (by omega)]; exact kk)
theorem xs5 (hx : p.tables.exec = Jvm.exec) (hb : c.code = cc) (hK : sw_XK D k s) (hP : sw_XP D g k p0 a b ln w pg lf H) (hg : sw_XD g) (hS : va_S (sw_XA g) H0 H locs) {i v : Nat} (hi : i < 64) (hdg : decode cc pc = .ok (.iastore, 1)) (kk : ∀ (H : Heap) (locs : List Loc), sw_XP D g k p0 a b ln w (va_up pg i v) lf H → va_S (sw_XA g) H0 H locs → W p l e R s m args below meth c H locs cells slots Q (F0 m (pc + 1) ls rest)) : W p l e R s m args below meth c H locs cells slots Q (F0 m pc ls (.int (nI v) :: .int (nI i) :: .ref (g 5) :: rest)) := by
  refine va_iast (f := sw_A pg) hx hb hK hP (sw_xD hg) hS 5 4 rfl rfl (vp_in_nI hi (by decide)) hdg (fun H1 locs1 h1 _ h3 => kk H1 locs1 ?_ h3)
  rw [sn_A_up pg (by omega : i < 2 ^ 31) (rfl : _ = nI v)] at h1
  exact h1
theorem xl6 (hx : p.tables.exec = Jvm.exec) (hb : c.code = cc) (hK : sw_XK D k s) (hP : sw_XP D g k p0 a b ln w pg lf H) {i : Nat} (hi : i < 10) (hdg : decode cc pc = .ok (.baload, 1)) (kk : W p l e R s m args below meth c H locs cells slots Q (F0 m (pc + 1) ls (.int (nI (lf i)) :: rest))) : W p l e R s m args below meth c H locs cells slots Q (F0 m pc ls (.int (nI i) :: .ref (g 6) :: rest)) := va_bald (f := sw_A lf) hx hb hK hP 6 5 rfl rfl (vp_in_nI hi (by decide)) hdg (by rw [sn_A_at lf (by omega)]; exact kk)
theorem xs6 (hx : p.tables.exec = Jvm.exec) (hb : c.code = cc) (hK : sw_XK D k s) (hP : sw_XP D g k p0 a b ln w pg lf H) (hg : sw_XD g) (hS : va_S (sw_XA g) H0 H locs) {i v : Nat} (hi : i < 10) (hv : v < 128) (hdg : decode cc pc = .ok (.bastore, 1)) (kk : ∀ (H : Heap) (locs : List Loc), sw_XP D g k p0 a b ln w pg (va_up lf i v) H → va_S (sw_XA g) H0 H locs → W p l e R s m args below meth c H locs cells slots Q (F0 m (pc + 1) ls rest)) : W p l e R s m args below meth c H locs cells slots Q (F0 m pc ls (.int (nI v) :: .int (nI i) :: .ref (g 6) :: rest)) := by
  refine va_bast (f := sw_A lf) hx hb hK hP (sw_xD hg) hS 6 5 rfl rfl (vp_in_nI hi (by decide)) hdg (fun H1 locs1 h1 _ h3 => kk H1 locs1 ?_ h3)
  rw [sn_A_up lf (by omega : i < 2 ^ 31) (sn_nb v hv : _ = nI v)] at h1
  exact h1
theorem xput (hx : p.tables.exec = Jvm.exec) (hb : c.code = cc) (hts : ∀ w ∈ lw_all, w.before args s = true) (hown : s.vm.findClass RX0 = some m.cls) (hK : sw_XK D k s) (hP : sw_XP D g k p0 a b ln w pg lf H) (hg : sw_XD g) (hS : va_S (sw_XA g) H0 H locs) {v : Nat} (hdg : decode cc pc = .ok (.putfield 29, 3)) (kk : ∀ (H : Heap) (locs : List Loc), sw_XP D g k v a b ln w pg lf H → va_S (sw_XA g) H0 H locs → W p l e R s m args below meth c H locs cells slots Q (F0 m (pc + 3) ls rest)) : W p l e R s m args below meth c H locs cells slots Q (F0 m pc ls (.int (nI v) :: .ref (g 0) :: rest)) := va_put (D := D) (ci := 0) (v := .int (nI v)) (ty := .int) (C := RX0) (T := TX0) (N := 7) hx hb hts in_X0 tyX0 tyX0_ok nmX0 hown hK hP (sw_xD hg) hS 0 rfl rfl 0 (by decide) (hts _ q31) (fun _ h9 => h9) rfl (by decide +kernel) rfl rfl (Nat.le_of_ble_eq_true rfl) hdg (fun H1 locs1 h1 _ h3 => kk H1 locs1 h1 h3)
theorem mg1 (hx : p.tables.exec = Jvm.exec) (hb : c.code = cc) (hts : ∀ w ∈ lw_all, w.before args s = true) (hown : s.vm.findClass RX1 = some m.cls) (hK : sw_MK D k s) (hP : sw_MP D g k p0 a b ln lf nr H) (hdg : decode cc pc = .ok (.getfield 7, 3)) (kk : W p l e R s m args below meth c H locs cells slots Q (F0 m (pc + 3) ls (.ref (g 1) :: rest))) : W p l e R s m args below meth c H locs cells slots Q (F0 m pc ls (.ref (g 0) :: rest)) := va_get (D := D) (ci := 1) (v := .ref (g 1)) (C := RX1) (T := TX1) (N := 6) hx hb hts in_X1 hown hK hP 0 rfl rfl 0 (by decide) (hts _ q163) (fun _ h9 => h9) rfl hdg kk
theorem mg2 (hx : p.tables.exec = Jvm.exec) (hb : c.code = cc) (hts : ∀ w ∈ lw_all, w.before args s = true) (hown : s.vm.findClass RX1 = some m.cls) (hK : sw_MK D k s) (hP : sw_MP D g k p0 a b ln lf nr H) (hdg : decode cc pc = .ok (.getfield 13, 3)) (kk : W p l e R s m args below meth c H locs cells slots Q (F0 m (pc + 3) ls (.ref (g 2) :: rest))) : W p l e R s m args below meth c H locs cells slots Q (F0 m pc ls (.ref (g 0) :: rest)) := va_get (D := D) (ci := 1) (v := .ref (g 2)) (C := RX1) (T := TX1) (N := 6) hx hb hts in_X1 hown hK hP 0 rfl rfl 1 (by decide) (hts _ q164) (fun _ h9 => h9) rfl hdg kk
theorem mg3 (hx : p.tables.exec = Jvm.exec) (hb : c.code = cc) (hts : ∀ w ∈ lw_all, w.before args s = true) (hown : s.vm.findClass RX1 = some m.cls) (hK : sw_MK D k s) (hP : sw_MP D g k p0 a b ln lf nr H) (hdg : decode cc pc = .ok (.getfield 17, 3)) (kk : W p l e R s m args below meth c H locs cells slots Q (F0 m (pc + 3) ls (.ref (g 3) :: rest))) : W p l e R s m args below meth c H locs cells slots Q (F0 m pc ls (.ref (g 0) :: rest)) := va_get (D := D) (ci := 1) (v := .ref (g 3)) (C := RX1) (T := TX1) (N := 6) hx hb hts in_X1 hown hK hP 0 rfl rfl 2 (by decide) (hts _ q165) (fun _ h9 => h9) rfl hdg kk
theorem mg4 (hx : p.tables.exec = Jvm.exec) (hb : c.code = cc) (hts : ∀ w ∈ lw_all, w.before args s = true) (hown : s.vm.findClass RX1 = some m.cls) (hK : sw_MK D k s) (hP : sw_MP D g k p0 a b ln lf nr H) (hdg : decode cc pc = .ok (.getfield 20, 3)) (kk : W p l e R s m args below meth c H locs cells slots Q (F0 m (pc + 3) ls (.ref (g 4) :: rest))) : W p l e R s m args below meth c H locs cells slots Q (F0 m pc ls (.ref (g 0) :: rest)) := va_get (D := D) (ci := 1) (v := .ref (g 4)) (C := RX1) (T := TX1) (N := 6) hx hb hts in_X1 hown hK hP 0 rfl rfl 3 (by decide) (hts _ q166) (fun _ h9 => h9) rfl hdg kk
theorem mg5 (hx : p.tables.exec = Jvm.exec) (hb : c.code = cc) (hts : ∀ w ∈ lw_all, w.before args s = true) (hown : s.vm.findClass RX1 = some m.cls) (hK : sw_MK D k s) (hP : sw_MP D g k p0 a b ln lf nr H) (hdg : decode cc pc = .ok (.getfield 23, 3)) (kk : W p l e R s m args below meth c H locs cells slots Q (F0 m (pc + 3) ls (.ref (g 5) :: rest))) : W p l e R s m args below meth c H locs cells slots Q (F0 m pc ls (.ref (g 0) :: rest)) := va_get (D := D) (ci := 1) (v := .ref (g 5)) (C := RX1) (T := TX1) (N := 6) hx hb hts in_X1 hown hK hP 0 rfl rfl 4 (by decide) (hts _ q167) (fun _ h9 => h9) rfl hdg kk
theorem mg6 (hx : p.tables.exec = Jvm.exec) (hb : c.code = cc) (hts : ∀ w ∈ lw_all, w.before args s = true) (hown : s.vm.findClass RX1 = some m.cls) (hK : sw_MK D k s) (hP : sw_MP D g k p0 a b ln lf nr H) (hdg : decode cc pc = .ok (.getfield 26, 3)) (kk : W p l e R s m args below meth c H locs cells slots Q (F0 m (pc + 3) ls (.ref (g 6) :: rest))) : W p l e R s m args below meth c H locs cells slots Q (F0 m pc ls (.ref (g 0) :: rest)) := va_get (D := D) (ci := 1) (v := .ref (g 6)) (C := RX1) (T := TX1) (N := 6) hx hb hts in_X1 hown hK hP 0 rfl rfl 5 (by decide) (hts _ q168) (fun _ h9 => h9) rfl hdg kk
theorem ml1 (hx : p.tables.exec = Jvm.exec) (hb : c.code = cc) (hK : sw_MK D k s) (hP : sw_MP D g k p0 a b ln lf nr H) {i : Nat} (hi : i < 10) (hdg : decode cc pc = .ok (.baload, 1)) (kk : W p l e R s m args below meth c H locs cells slots Q (F0 m (pc + 1) ls (.int (nI (p0.testBit i).toNat) :: rest))) : W p l e R s m args below meth c H locs cells slots Q (F0 m pc ls (.int (nI i) :: .ref (g 1) :: rest)) := va_zald (f := sw_A (sw_bf p0)) hx hb hK hP 1 0 rfl rfl (vp_in_nI hi (by decide)) hdg (by rw [sn_A_at (sw_bf p0) (by omega)]; exact kk)
theorem ml2 (hx : p.tables.exec = Jvm.exec) (hb : c.code = cc) (hK : sw_MK D k s) (hP : sw_MP D g k p0 a b ln lf nr H) {i : Nat} (hi : i < 10) (hdg : decode cc pc = .ok (.iaload, 1)) (kk : W p l e R s m args below meth c H locs cells slots Q (F0 m (pc + 1) ls (.int (nI (a i)) :: rest))) : W p l e R s m args below meth c H locs cells slots Q (F0 m pc ls (.int (nI i) :: .ref (g 2) :: rest)) := va_iald (f := sw_A a) hx hb hK hP 2 1 rfl rfl (vp_in_nI hi (by decide)) hdg (by rw [sn_A_at a (by omega)]; exact kk)
theorem ms2 (hx : p.tables.exec = Jvm.exec) (hb : c.code = cc) (hK : sw_MK D k s) (hP : sw_MP D g k p0 a b ln lf nr H) (hg : sw_XD g) (hS : va_S (sw_XA g) H0 H locs) {i v : Nat} (hi : i < 10) (hdg : decode cc pc = .ok (.iastore, 1)) (kk : ∀ (H : Heap) (locs : List Loc), sw_MP D g k p0 (va_up a i v) b ln lf nr H → va_S (sw_XA g) H0 H locs → W p l e R s m args below meth c H locs cells slots Q (F0 m (pc + 1) ls rest)) : W p l e R s m args below meth c H locs cells slots Q (F0 m pc ls (.int (nI v) :: .int (nI i) :: .ref (g 2) :: rest)) := by
  refine va_iast (f := sw_A a) hx hb hK hP (sw_mD hg) hS 2 1 rfl rfl (vp_in_nI hi (by decide)) hdg (fun H1 locs1 h1 _ h3 => kk H1 locs1 ?_ h3)
  rw [sn_A_up a (by omega : i < 2 ^ 31) (rfl : _ = nI v)] at h1
  exact h1
theorem ml3 (hx : p.tables.exec = Jvm.exec) (hb : c.code = cc) (hK : sw_MK D k s) (hP : sw_MP D g k p0 a b ln lf nr H) {i : Nat} (hi : i < 10) (hdg : decode cc pc = .ok (.iaload, 1)) (kk : W p l e R s m args below meth c H locs cells slots Q (F0 m (pc + 1) ls (.int (nI (b i)) :: rest))) : W p l e R s m args below meth c H locs cells slots Q (F0 m pc ls (.int (nI i) :: .ref (g 3) :: rest)) := va_iald (f := sw_A b) hx hb hK hP 3 2 rfl rfl (vp_in_nI hi (by decide)) hdg (by rw [sn_A_at b (by omega)]; exact kk)
theorem ms3 (hx : p.tables.exec = Jvm.exec) (hb : c.code = cc) (hK : sw_MK D k s) (hP : sw_MP D g k p0 a b ln lf nr H) (hg : sw_XD g) (hS : va_S (sw_XA g) H0 H locs) {i v : Nat} (hi : i < 10) (hdg : decode cc pc = .ok (.iastore, 1)) (kk : ∀ (H : Heap) (locs : List Loc), sw_MP D g k p0 a (va_up b i v) ln lf nr H → va_S (sw_XA g) H0 H locs → W p l e R s m args below meth c H locs cells slots Q (F0 m (pc + 1) ls rest)) : W p l e R s m args below meth c H locs cells slots Q (F0 m pc ls (.int (nI v) :: .int (nI i) :: .ref (g 3) :: rest)) := by
  refine va_iast (f := sw_A b) hx hb hK hP (sw_mD hg) hS 3 2 rfl rfl (vp_in_nI hi (by decide)) hdg (fun H1 locs1 h1 _ h3 => kk H1 locs1 ?_ h3)
  rw [sn_A_up b (by omega : i < 2 ^ 31) (rfl : _ = nI v)] at h1
  exact h1
theorem ml4 (hx : p.tables.exec = Jvm.exec) (hb : c.code = cc) (hK : sw_MK D k s) (hP : sw_MP D g k p0 a b ln lf nr H) {i : Nat} (hi : i < 10) (hdg : decode cc pc = .ok (.iaload, 1)) (kk : W p l e R s m args below meth c H locs cells slots Q (F0 m (pc + 1) ls (.int (nI (ln i)) :: rest))) : W p l e R s m args below meth c H locs cells slots Q (F0 m pc ls (.int (nI i) :: .ref (g 4) :: rest)) := va_iald (f := sw_A ln) hx hb hK hP 4 3 rfl rfl (vp_in_nI hi (by decide)) hdg (by rw [sn_A_at ln (by omega)]; exact kk)
theorem ms4 (hx : p.tables.exec = Jvm.exec) (hb : c.code = cc) (hK : sw_MK D k s) (hP : sw_MP D g k p0 a b ln lf nr H) (hg : sw_XD g) (hS : va_S (sw_XA g) H0 H locs) {i v : Nat} (hi : i < 10) (hdg : decode cc pc = .ok (.iastore, 1)) (kk : ∀ (H : Heap) (locs : List Loc), sw_MP D g k p0 a b (va_up ln i v) lf nr H → va_S (sw_XA g) H0 H locs → W p l e R s m args below meth c H locs cells slots Q (F0 m (pc + 1) ls rest)) : W p l e R s m args below meth c H locs cells slots Q (F0 m pc ls (.int (nI v) :: .int (nI i) :: .ref (g 4) :: rest)) := by
  refine va_iast (f := sw_A ln) hx hb hK hP (sw_mD hg) hS 4 3 rfl rfl (vp_in_nI hi (by decide)) hdg (fun H1 locs1 h1 _ h3 => kk H1 locs1 ?_ h3)
  rw [sn_A_up ln (by omega : i < 2 ^ 31) (rfl : _ = nI v)] at h1
  exact h1
theorem ml5 (hx : p.tables.exec = Jvm.exec) (hb : c.code = cc) (hK : sw_MK D k s) (hP : sw_MP D g k p0 a b ln lf nr H) {i : Nat} (hi : i < 10) (hdg : decode cc pc = .ok (.iaload, 1)) (kk : W p l e R s m args below meth c H locs cells slots Q (F0 m (pc + 1) ls (.int (nI (lf i)) :: rest))) : W p l e R s m args below meth c H locs cells slots Q (F0 m pc ls (.int (nI i) :: .ref (g 5) :: rest)) := va_iald (f := sw_A lf) hx hb hK hP 5 4 rfl rfl (vp_in_nI hi (by decide)) hdg (by rw [sn_A_at lf (by omega)]; exact kk)
theorem ms5 (hx : p.tables.exec = Jvm.exec) (hb : c.code = cc) (hK : sw_MK D k s) (hP : sw_MP D g k p0 a b ln lf nr H) (hg : sw_XD g) (hS : va_S (sw_XA g) H0 H locs) {i v : Nat} (hi : i < 10) (hdg : decode cc pc = .ok (.iastore, 1)) (kk : ∀ (H : Heap) (locs : List Loc), sw_MP D g k p0 a b ln (va_up lf i v) nr H → va_S (sw_XA g) H0 H locs → W p l e R s m args below meth c H locs cells slots Q (F0 m (pc + 1) ls rest)) : W p l e R s m args below meth c H locs cells slots Q (F0 m pc ls (.int (nI v) :: .int (nI i) :: .ref (g 5) :: rest)) := by
  refine va_iast (f := sw_A lf) hx hb hK hP (sw_mD hg) hS 5 4 rfl rfl (vp_in_nI hi (by decide)) hdg (fun H1 locs1 h1 _ h3 => kk H1 locs1 ?_ h3)
  rw [sn_A_up lf (by omega : i < 2 ^ 31) (rfl : _ = nI v)] at h1
  exact h1
theorem ml6 (hx : p.tables.exec = Jvm.exec) (hb : c.code = cc) (hK : sw_MK D k s) (hP : sw_MP D g k p0 a b ln lf nr H) {i : Nat} (hi : i < 6) (hdg : decode cc pc = .ok (.iaload, 1)) (kk : W p l e R s m args below meth c H locs cells slots Q (F0 m (pc + 1) ls (.int (nI (nr i)) :: rest))) : W p l e R s m args below meth c H locs cells slots Q (F0 m pc ls (.int (nI i) :: .ref (g 6) :: rest)) := va_iald (f := sw_A nr) hx hb hK hP 6 5 rfl rfl (vp_in_nI hi (by decide)) hdg (by rw [sn_A_at nr (by omega)]; exact kk)
theorem ms6 (hx : p.tables.exec = Jvm.exec) (hb : c.code = cc) (hK : sw_MK D k s) (hP : sw_MP D g k p0 a b ln lf nr H) (hg : sw_XD g) (hS : va_S (sw_XA g) H0 H locs) {i v : Nat} (hi : i < 6) (hdg : decode cc pc = .ok (.iastore, 1)) (kk : ∀ (H : Heap) (locs : List Loc), sw_MP D g k p0 a b ln lf (va_up nr i v) H → va_S (sw_XA g) H0 H locs → W p l e R s m args below meth c H locs cells slots Q (F0 m (pc + 1) ls rest)) : W p l e R s m args below meth c H locs cells slots Q (F0 m pc ls (.int (nI v) :: .int (nI i) :: .ref (g 6) :: rest)) := by
  refine va_iast (f := sw_A nr) hx hb hK hP (sw_mD hg) hS 6 5 rfl rfl (vp_in_nI hi (by decide)) hdg (fun H1 locs1 h1 _ h3 => kk H1 locs1 ?_ h3)
  rw [sn_A_up nr (by omega : i < 2 ^ 31) (rfl : _ = nI v)] at h1
  exact h1
theorem ms1t (hx : p.tables.exec = Jvm.exec) (hb : c.code = cc) (hK : sw_MK D k s) (hP : sw_MP D g k p0 a b ln lf nr H) (hg : sw_XD g) (hS : va_S (sw_XA g) H0 H locs) {i : Nat} (hi : i < 10) (hdg : decode cc pc = .ok (.bastore, 1)) (kk : ∀ (H : Heap) (locs : List Loc), sw_MP D g k (p0 ||| 2 ^ i) a b ln lf nr H → va_S (sw_XA g) H0 H locs → W p l e R s m args below meth c H locs cells slots Q (F0 m (pc + 1) ls rest)) : W p l e R s m args below meth c H locs cells slots Q (F0 m pc ls (.int (nI 1) :: .int (nI i) :: .ref (g 1) :: rest)) := by
  refine va_zast (f := sw_A (sw_bf p0)) hx hb hK hP (sw_mD hg) hS 1 0 rfl rfl (vp_in_nI hi (by decide)) hdg (fun H1 locs1 h1 _ h3 => kk H1 locs1 ?_ h3)
  rw [sn_A_up (sw_bf p0) (by omega : i < 2 ^ 31) (sn_nz 1 (by decide) : _ = nI 1), sn_bf_in] at h1
  exact h1
theorem ms1f (hx : p.tables.exec = Jvm.exec) (hb : c.code = cc) (hK : sw_MK D k s) (hP : sw_MP D g k p0 a b ln lf nr H) (hg : sw_XD g) (hS : va_S (sw_XA g) H0 H locs) {i : Nat} (hi : i < 10) (hdg : decode cc pc = .ok (.bastore, 1)) (kk : ∀ (H : Heap) (locs : List Loc), sw_MP D g k (sw_an p0 (2 ^ i)) a b ln lf nr H → va_S (sw_XA g) H0 H locs → W p l e R s m args below meth c H locs cells slots Q (F0 m (pc + 1) ls rest)) : W p l e R s m args below meth c H locs cells slots Q (F0 m pc ls (.int (nI 0) :: .int (nI i) :: .ref (g 1) :: rest)) := by
  refine va_zast (f := sw_A (sw_bf p0)) hx hb hK hP (sw_mD hg) hS 1 0 rfl rfl (vp_in_nI hi (by decide)) hdg (fun H1 locs1 h1 _ h3 => kk H1 locs1 ?_ h3)
  rw [sn_A_up (sw_bf p0) (by omega : i < 2 ^ 31) (sn_nz 0 (by decide) : _ = nI 0), sn_bf_out] at h1
  exact h1
end SWX
end
section
/-! CONTRACTS: how one is opened, how it ends; calls -/
def sw_rm (d : Nat) : Room := { frames := d, cells := 0, slots := 0, locals := 30 * d }

theorem so_i {l : Launch} {y : MethodName} {cc : ByteArray} {maxL d : Nat} {As : List Value} {own : String} {B : State → Prop} {post : Int32 → Prop} (hy : plainName y.cls = true) (ho : y.cls = own) (hlen : (lg_sl As).length ≤ maxL) 
    (body : ∀ (p : Program) (e : Env) (R : Room) (s : State) (m : MethodId) (args : Array Value) (below : List Frame) (meth : Method) (c : Code) (Q : State → Prop) (ls : Array Slot), CallFix p m c cc maxL s args lw_all own → d ≤ R.frames → 30 * d ≤ R.locals → B s → lv_has ls maxL (lv_args 0 As) → (∀ (pc : Nat) (ls : Array Slot) (v : Int32), decode cc pc = .ok (.ireturn, 1) → post v → W p l e R s m args below meth c s.heap [] 0 0 Q (F0 m pc ls [.int v])) → W p l e R s m args below meth c s.heap [] 0 0 Q (F0 m 0 ls [])) : Met l y (ws_ y cc maxL (some .int)) (sw_rm d) (va_Pc As B) (vp_Si post) 0 0 (fun _ => False) := by
  refine Met.ofW (cc := cc) (maxL := maxL) (ret := some .int) hy rfl ?_
  intro p e s m args below meth c s₁ B0 hml hv
  obtain ⟨rfl, hB⟩ := hv
  have hts := atoms_spec (ws := ws_ y cc maxL (some .int)) B0.pre
  have hts : ∀ w ∈ lw_all, w.before _ s = true := fun w h => hts w (List.mem_cons_of_mem _ h)
  have hown : s.vm.findClass own = some m.cls := by rw [← ho]; exact findClass_of_methodNamed B0.named
  have hl := lv_entry As (n := maxL) hlen
  rw [lg_entry_eq]
  generalize (lg_sl As ++ List.replicate (maxL - (lg_sl As).length) Slot.unset).toArray = ls at hl ⊢
  refine body p e _ s m _ below meth c _ ls ⟨B0.exec, B0.bytes, hml, hown, hts⟩ (Nat.le_refl d) (Nat.le_refl (30 * d)) hB hl (fun pc ls v hd hp => ?_)
  exact W.iret B0.exec B0.bytes B0.returns (fun t ht _ => ⟨v, rfl, hp, ht⟩) (fun q h => by cases h) hd B0.notSynchronized

theorem so_z {l : Launch} {y : MethodName} {cc : ByteArray} {maxL d : Nat} {As : List Value} {own : String} {B : State → Prop} {post : Int32 → Prop} (hy : plainName y.cls = true) (ho : y.cls = own) (hlen : (lg_sl As).length ≤ maxL) (hz : ∀ v, post v → ∃ b : Bool, v = nI b.toNat) 
    (body : ∀ (p : Program) (e : Env) (R : Room) (s : State) (m : MethodId) (args : Array Value) (below : List Frame) (meth : Method) (c : Code) (Q : State → Prop) (ls : Array Slot), CallFix p m c cc maxL s args lw_all own → d ≤ R.frames → 30 * d ≤ R.locals → B s → lv_has ls maxL (lv_args 0 As) → (∀ (pc : Nat) (ls : Array Slot) (v : Int32), decode cc pc = .ok (.ireturn, 1) → post v → W p l e R s m args below meth c s.heap [] 0 0 Q (F0 m pc ls [.int v])) → W p l e R s m args below meth c s.heap [] 0 0 Q (F0 m 0 ls [])) : Met l y (ws_ y cc maxL (some .boolean)) (sw_rm d) (va_Pc As B) (vp_Si post) 0 0 (fun _ => False) := by
  refine Met.ofW (cc := cc) (maxL := maxL) (ret := some .boolean) hy rfl ?_
  intro p e s m args below meth c s₁ B0 hml hv
  obtain ⟨rfl, hB⟩ := hv
  have hts := atoms_spec (ws := ws_ y cc maxL (some .boolean)) B0.pre
  have hts : ∀ w ∈ lw_all, w.before _ s = true := fun w h => hts w (List.mem_cons_of_mem _ h)
  have hown : s.vm.findClass own = some m.cls := by rw [← ho]; exact findClass_of_methodNamed B0.named
  have hl := lv_entry As (n := maxL) hlen
  rw [lg_entry_eq]
  generalize (lg_sl As ++ List.replicate (maxL - (lg_sl As).length) Slot.unset).toArray = ls at hl ⊢
  refine body p e _ s m _ below meth c _ ls ⟨B0.exec, B0.bytes, hml, hown, hts⟩ (Nat.le_refl d) (Nat.le_refl (30 * d)) hB hl (fun pc ls v hd hp => ?_)
  obtain ⟨b, hb⟩ := hz v hp
  exact W.zret B0.exec B0.bytes B0.returns (by rw [hb]; exact sn_zb b) (fun t ht _ => ⟨v, rfl, hp, ht⟩) (fun q h => by cases h) hd B0.notSynchronized

theorem so_wi {S : Type} {l : Launch} {y : MethodName} {cc : ByteArray} {maxL d : Nat} {As : List Value} {own : String} {B : State → Prop} {post : Int32 → S → Prop} {Bw : S → Heap → Prop} {A : Nat → Prop} (hy : plainName y.cls = true) (ho : y.cls = own) (hlen : (lg_sl As).length ≤ maxL) 
    (body : ∀ (p : Program) (e : Env) (R : Room) (s : State) (m : MethodId) (args : Array Value) (below : List Frame) (meth : Method) (c : Code) (Q : State → Prop) (ls : Array Slot), CallFix p m c cc maxL s args lw_all own → d ≤ R.frames → 30 * d ≤ R.locals → B s → lv_has ls maxL (lv_args 0 As) → (∀ (pc : Nat) (ls : Array Slot) (v : Int32) (u : S) (H : Heap) (locs : List Loc), decode cc pc = .ok (.ireturn, 1) → post v u → Bw u H → va_S A s.heap H locs → W p l e R s m args below meth c H locs 0 0 Q (F0 m pc ls [.int v])) → W p l e R s m args below meth c s.heap [] 0 0 Q (F0 m 0 ls [])) : Met l y (ws_ y cc maxL (some .int)) (sw_rm d) (va_Pc As B) (va_Qi post (fun u t => Bw u t.heap) A) 0 0 A := by
  refine Met.ofW (cc := cc) (maxL := maxL) (ret := some .int) hy rfl ?_
  intro p e s m args below meth c s₁ B0 hml hv
  obtain ⟨rfl, hB⟩ := hv
  have hts := atoms_spec (ws := ws_ y cc maxL (some .int)) B0.pre
  have hts : ∀ w ∈ lw_all, w.before _ s = true := fun w h => hts w (List.mem_cons_of_mem _ h)
  have hown : s.vm.findClass own = some m.cls := by rw [← ho]; exact findClass_of_methodNamed B0.named
  have hl := lv_entry As (n := maxL) hlen
  rw [lg_entry_eq]
  generalize (lg_sl As ++ List.replicate (maxL - (lg_sl As).length) Slot.unset).toArray = ls at hl ⊢
  refine body p e _ s m _ below meth c _ ls ⟨B0.exec, B0.bytes, hml, hown, hts⟩ (Nat.le_refl d) (Nat.le_refl (30 * d)) hB hl (fun pc ls v u H locs hd hp hP hS => ?_)
  exact W.iret B0.exec B0.bytes B0.returns (fun t ht _ => ⟨⟨v, u, rfl, hp, by show Bw u t.heap; rw [ht]; exact hP⟩, hS.F ht⟩) hS.2.2 hd B0.notSynchronized

theorem so_wz {S : Type} {l : Launch} {y : MethodName} {cc : ByteArray} {maxL d : Nat} {As : List Value} {own : String} {B : State → Prop} {post : Int32 → S → Prop} {Bw : S → Heap → Prop} {A : Nat → Prop} (hy : plainName y.cls = true) (ho : y.cls = own) (hlen : (lg_sl As).length ≤ maxL) (hz : ∀ v u, post v u → ∃ b : Bool, v = nI b.toNat) 
    (body : ∀ (p : Program) (e : Env) (R : Room) (s : State) (m : MethodId) (args : Array Value) (below : List Frame) (meth : Method) (c : Code) (Q : State → Prop) (ls : Array Slot), CallFix p m c cc maxL s args lw_all own → d ≤ R.frames → 30 * d ≤ R.locals → B s → lv_has ls maxL (lv_args 0 As) → (∀ (pc : Nat) (ls : Array Slot) (v : Int32) (u : S) (H : Heap) (locs : List Loc), decode cc pc = .ok (.ireturn, 1) → post v u → Bw u H → va_S A s.heap H locs → W p l e R s m args below meth c H locs 0 0 Q (F0 m pc ls [.int v])) → W p l e R s m args below meth c s.heap [] 0 0 Q (F0 m 0 ls [])) : Met l y (ws_ y cc maxL (some .boolean)) (sw_rm d) (va_Pc As B) (va_Qi post (fun u t => Bw u t.heap) A) 0 0 A := by
  refine Met.ofW (cc := cc) (maxL := maxL) (ret := some .boolean) hy rfl ?_
  intro p e s m args below meth c s₁ B0 hml hv
  obtain ⟨rfl, hB⟩ := hv
  have hts := atoms_spec (ws := ws_ y cc maxL (some .boolean)) B0.pre
  have hts : ∀ w ∈ lw_all, w.before _ s = true := fun w h => hts w (List.mem_cons_of_mem _ h)
  have hown : s.vm.findClass own = some m.cls := by rw [← ho]; exact findClass_of_methodNamed B0.named
  have hl := lv_entry As (n := maxL) hlen
  rw [lg_entry_eq]
  generalize (lg_sl As ++ List.replicate (maxL - (lg_sl As).length) Slot.unset).toArray = ls at hl ⊢
  refine body p e _ s m _ below meth c _ ls ⟨B0.exec, B0.bytes, hml, hown, hts⟩ (Nat.le_refl d) (Nat.le_refl (30 * d)) hB hl (fun pc ls v u H locs hd hp hP hS => ?_)
  obtain ⟨b, hb⟩ := hz v u hp
  exact W.zret B0.exec B0.bytes B0.returns (by rw [hb]; exact sn_zb b) (fun t ht _ => ⟨⟨v, u, rfl, hp, by show Bw u t.heap; rw [ht]; exact hP⟩, hS.F ht⟩) hS.2.2 hd B0.notSynchronized

theorem so_wv {S : Type} {l : Launch} {y : MethodName} {cc : ByteArray} {maxL d : Nat} {As : List Value} {own : String} {B : State → Prop} {post : S → Prop} {Bw : S → Heap → Prop} {A : Nat → Prop} (hy : plainName y.cls = true) (ho : y.cls = own) (hlen : (lg_sl As).length ≤ maxL) 
    (body : ∀ (p : Program) (e : Env) (R : Room) (s : State) (m : MethodId) (args : Array Value) (below : List Frame) (meth : Method) (c : Code) (Q : State → Prop) (ls : Array Slot), CallFix p m c cc maxL s args lw_all own → d ≤ R.frames → 30 * d ≤ R.locals → B s → lv_has ls maxL (lv_args 0 As) → (∀ (pc : Nat) (ls : Array Slot) (u : S) (H : Heap) (locs : List Loc), decode cc pc = .ok (.return_, 1) → post u → Bw u H → va_S A s.heap H locs → W p l e R s m args below meth c H locs 0 0 Q (F0 m pc ls [])) → W p l e R s m args below meth c s.heap [] 0 0 Q (F0 m 0 ls [])) : Met l y (ws_ y cc maxL (none)) (sw_rm d) (va_Pc As B) (va_Qv post (fun u t => Bw u t.heap) A) 0 0 A := by
  refine Met.ofW (cc := cc) (maxL := maxL) (ret := none) hy rfl ?_
  intro p e s m args below meth c s₁ B0 hml hv
  obtain ⟨rfl, hB⟩ := hv
  have hts := atoms_spec (ws := ws_ y cc maxL (none)) B0.pre
  have hts : ∀ w ∈ lw_all, w.before _ s = true := fun w h => hts w (List.mem_cons_of_mem _ h)
  have hown : s.vm.findClass own = some m.cls := by rw [← ho]; exact findClass_of_methodNamed B0.named
  have hl := lv_entry As (n := maxL) hlen
  rw [lg_entry_eq]
  generalize (lg_sl As ++ List.replicate (maxL - (lg_sl As).length) Slot.unset).toArray = ls at hl ⊢
  refine body p e _ s m _ below meth c _ ls ⟨B0.exec, B0.bytes, hml, hown, hts⟩ (Nat.le_refl d) (Nat.le_refl (30 * d)) hB hl (fun pc ls u H locs hd hp hP hS => ?_)
  exact W.vret B0.exec B0.bytes B0.returns (fun t ht _ => ⟨⟨u, rfl, hp, by show Bw u t.heap; rw [ht]; exact hP⟩, hS.F ht⟩) hS.2.2 hd B0.notSynchronized

section SWC
variable {p : Program} {l : Launch} {e : Env} {R : Room} {s : State} {m : MethodId} {args : Array Value} {below : List Frame} {meth : Method} {c : Code} {H : Heap} {locs : List Loc} {cells slots : Nat} {Q : State → Prop}
variable {cc bytes : ByteArray} {pc maxL d nL index n b : Nat} {ls : Array Slot} {rest st As : List Value} {y : MethodName} {ret : Option FieldType} {own C : String} {B : State → Prop} {H0 : Heap} {A A0 : Nat → Prop}

/-- a call that only reads -/
theorem sc_ro {post : Int32 → Prop} (S : CallFix p m c cc nL s args lw_all own) (hM : Met l y (ws_ y bytes maxL ret) (sw_rm d) (va_Pc (.ref b :: As) B) (vp_Si post) 0 0 (fun _ => False)) (hG : GoodIn lw_all (wsV own index C y (ws_ y bytes maxL ret))) (hd : y.cls = C ∧ y.cls ≠ "java/lang/invoke/MethodHandle" ∧ y.cls ≠ "java/lang/invoke/VarHandle" ∧ (parseMethodDescriptor y.desc).map (fun d => d.parameters.length) = some n) (hR : d + 1 ≤ R.frames) (hL : 30 * (d + 1) ≤ R.locals) (hm : maxL ≤ 11) (hcs : cells ≤ R.cells) (hss : slots ≤ R.slots) (hbl : ∀ (a : Array Value) (U : State) (g : JFrame) (mk : MethodId), B U → B (U.calling g mk a)) (hrec : ∃ cell : Cell, H[b]? = some cell ∧ cell.vm.isStatics = false ∧ s.vm.findClass C = some cell.cls) (hB : ∀ U : State, U.heap = H → s.WarmedH U.vm → B U) (hn : As.length = n) (hsz : ls.size = nL) (hrest : (rest.map fun v => v.category).sum ≤ 8) (hdg : decode cc pc = .ok (.invokevirtual index, 3)) (hst : st = As.reverse ++ .ref b :: rest) (kk : ∀ r, post r → W p l e R s m args below meth c H locs cells slots Q (F0 m (pc + 3) ls (.int r :: rest))) : W p l e R s m args below meth c H locs cells slots Q (F0 m pc ls st) := vp_callSi (va_Run.run (va_runV (As := As) (rest := rest) S hM (cwV n S.2.2.2.2 hG rfl rfl rfl hd ⟨hR, by show 8 + (maxL + 11) + 30 * d ≤ R.locals; omega⟩) ⟨fun a U g mk q => ⟨q.1, hbl a U g mk q.2⟩, hrec, fun U hU hW => ⟨rfl, hB U hU hW⟩⟩ rfl hn hsz hst (lv_room hrest) hdg ⟨hcs, hss⟩)) kk
/-- a static call that only reads -/
theorem sc_st {post : Int32 → Prop} (S : CallFix p m c cc nL s args lw_all own) (hM : Met l y (ws_ y bytes maxL ret) (sw_rm d) (va_Pc As B) (vp_Si post) 0 0 (fun _ => False)) (hG : GoodIn lw_all (va_wsS own index y (ws_ y bytes maxL ret))) (hd : y.cls ≠ "java/lang/invoke/MethodHandle" ∧ y.cls ≠ "java/lang/invoke/VarHandle" ∧ (parseMethodDescriptor y.desc).map (fun d => d.parameters.length) = some n) (hR : d + 1 ≤ R.frames) (hL : 30 * (d + 1) ≤ R.locals) (hm : maxL ≤ 11) (hcs : cells ≤ R.cells) (hss : slots ≤ R.slots) (hbl : ∀ (a : Array Value) (U : State) (g : JFrame) (mk : MethodId), B U → B (U.calling g mk a)) (hB : ∀ U : State, U.heap = H → s.WarmedH U.vm → B U) (hn : As.length = n) (hsz : ls.size = nL) (hrest : (rest.map fun v => v.category).sum ≤ 8) (hdg : decode cc pc = .ok (.invokestatic index, 3)) (hst : st = As.reverse ++ rest) (kk : ∀ r, post r → W p l e R s m args below meth c H locs cells slots Q (F0 m (pc + 3) ls (.int r :: rest))) : W p l e R s m args below meth c H locs cells slots Q (F0 m pc ls st) := vp_callSi (va_Run.run (va_runS (As := As) (rest := rest) S hM (va_cwS n S.2.2.2.2 hG rfl rfl rfl hd ⟨hR, by show 8 + (maxL + 11) + 30 * d ≤ R.locals; omega⟩) ⟨fun a U g mk q => ⟨q.1, hbl a U g mk q.2⟩, fun U hU hW => ⟨rfl, hB U hU hW⟩⟩ rfl hn hsz hst (lv_room hrest) hdg ⟨hcs, hss⟩)) kk
/-- a call that writes -/
theorem sc_wi {S0 : Type} {post : Int32 → S0 → Prop} {Bw : S0 → Heap → Prop} (S : CallFix p m c cc nL s args lw_all own) (hM : Met l y (ws_ y bytes maxL ret) (sw_rm d) (va_Pc (.ref b :: As) B) (va_Qi post (fun u t => Bw u t.heap) A) 0 0 A) (hG : GoodIn lw_all (wsV own index C y (ws_ y bytes maxL ret))) (hd : y.cls = C ∧ y.cls ≠ "java/lang/invoke/MethodHandle" ∧ y.cls ≠ "java/lang/invoke/VarHandle" ∧ (parseMethodDescriptor y.desc).map (fun d => d.parameters.length) = some n) (hR : d + 1 ≤ R.frames) (hL : 30 * (d + 1) ≤ R.locals) (hm : maxL ≤ 11) (hcs : cells ≤ R.cells) (hss : slots ≤ R.slots) (hbl : ∀ (a : Array Value) (U : State) (g : JFrame) (mk : MethodId), B U → B (U.calling g mk a)) (hrec : ∃ cell : Cell, H[b]? = some cell ∧ cell.vm.isStatics = false ∧ s.vm.findClass C = some cell.cls) (hB : ∀ U : State, U.heap = H → s.WarmedH U.vm → B U) (hS : va_S A0 H0 H locs) (hA : ∀ q, A q → A0 q) (hn : As.length = n) (hsz : ls.size = nL) (hrest : (rest.map fun v => v.category).sum ≤ 8) (hdg : decode cc pc = .ok (.invokevirtual index, 3)) (hst : st = As.reverse ++ .ref b :: rest) (kk : ∀ (r : Int32) (u : S0) (H1 : Heap) (locs1 : List Loc), post r u → Bw u H1 → H.size ≤ H1.size → (∀ q : Nat, q < H.size → ¬ A q → H1[q]? = H[q]?) → va_S A0 H0 H1 locs1 → W p l e R s m args below meth c H1 locs1 cells slots Q (F0 m (pc + 3) ls (.int r :: rest))) : W p l e R s m args below meth c H locs cells slots Q (F0 m pc ls st) := va_calli (va_runV (As := As) (rest := rest) S hM (cwV n S.2.2.2.2 hG rfl rfl rfl hd ⟨hR, by show 8 + (maxL + 11) + 30 * d ≤ R.locals; omega⟩) ⟨fun a U g mk q => ⟨q.1, hbl a U g mk q.2⟩, hrec, fun U hU hW => ⟨rfl, hB U hU hW⟩⟩ rfl hn hsz hst (lv_room hrest) hdg ⟨hcs, hss⟩) hS (fun q _ h => hA q h) hA (fun r u t H1 locs1 ht _ hp hb hz hk hS1 => kk r u H1 locs1 hp (by rw [← ht]; exact hb) hz hk hS1)
/-- a call that writes -/
theorem sc_wv {S0 : Type} {post : S0 → Prop} {Bw : S0 → Heap → Prop} (S : CallFix p m c cc nL s args lw_all own) (hM : Met l y (ws_ y bytes maxL ret) (sw_rm d) (va_Pc (.ref b :: As) B) (va_Qv post (fun u t => Bw u t.heap) A) 0 0 A) (hG : GoodIn lw_all (wsV own index C y (ws_ y bytes maxL ret))) (hd : y.cls = C ∧ y.cls ≠ "java/lang/invoke/MethodHandle" ∧ y.cls ≠ "java/lang/invoke/VarHandle" ∧ (parseMethodDescriptor y.desc).map (fun d => d.parameters.length) = some n) (hR : d + 1 ≤ R.frames) (hL : 30 * (d + 1) ≤ R.locals) (hm : maxL ≤ 11) (hcs : cells ≤ R.cells) (hss : slots ≤ R.slots) (hbl : ∀ (a : Array Value) (U : State) (g : JFrame) (mk : MethodId), B U → B (U.calling g mk a)) (hrec : ∃ cell : Cell, H[b]? = some cell ∧ cell.vm.isStatics = false ∧ s.vm.findClass C = some cell.cls) (hB : ∀ U : State, U.heap = H → s.WarmedH U.vm → B U) (hS : va_S A0 H0 H locs) (hA : ∀ q, A q → A0 q) (hn : As.length = n) (hsz : ls.size = nL) (hrest : (rest.map fun v => v.category).sum ≤ 8) (hdg : decode cc pc = .ok (.invokevirtual index, 3)) (hst : st = As.reverse ++ .ref b :: rest) (kk : ∀ (u : S0) (H1 : Heap) (locs1 : List Loc), post u → Bw u H1 → H.size ≤ H1.size → (∀ q : Nat, q < H.size → ¬ A q → H1[q]? = H[q]?) → va_S A0 H0 H1 locs1 → W p l e R s m args below meth c H1 locs1 cells slots Q (F0 m (pc + 3) ls rest)) : W p l e R s m args below meth c H locs cells slots Q (F0 m pc ls st) := va_callv (va_runV (As := As) (rest := rest) S hM (cwV n S.2.2.2.2 hG rfl rfl rfl hd ⟨hR, by show 8 + (maxL + 11) + 30 * d ≤ R.locals; omega⟩) ⟨fun a U g mk q => ⟨q.1, hbl a U g mk q.2⟩, hrec, fun U hU hW => ⟨rfl, hB U hU hW⟩⟩ rfl hn hsz hst (lv_room hrest) hdg ⟨hcs, hss⟩) hS (fun q _ h => hA q h) hA (fun u t H1 locs1 ht _ hp hb hz hk hS1 => kk u H1 locs1 hp (by rw [← ht]; exact hb) hz hk hS1)
end SWC
section SWD
variable {p : Program} {l : Launch} {e : Env} {R : Room} {s : State} {m : MethodId} {args : Array Value} {below : List Frame} {meth : Method} {c : Code} {H : Heap} {locs : List Loc} {cells slots : Nat} {Q : State → Prop}
variable {cc bytes : ByteArray} {pc maxL d nL index n b : Nat} {ls : Array Slot} {rest st As : List Value} {y : MethodName} {ret : Option FieldType} {own C : String} {B : State → Prop} {H0 : Heap} {A A0 : Nat → Prop}
variable {D : va_G} {g : Nat → Nat} {k : Nat → ClassId} {p0 : Nat} {a b1 ln w pg lf nr : Nat → Nat}
theorem xc_ro {post : Int32 → Prop} (S : CallFix p m c cc nL s args lw_all own) (hM : Met l y (ws_ y bytes maxL ret) (sw_rm d) (va_Pc (.ref (g 0) :: As) (fun U => sw_XP D g k p0 a b1 ln w pg lf U.heap ∧ sw_XK D k U)) (vp_Si post) 0 0 (fun _ => False)) (hG : GoodIn lw_all (wsV own index RX0 y (ws_ y bytes maxL ret))) (hd : y.cls = RX0 ∧ y.cls ≠ "java/lang/invoke/MethodHandle" ∧ y.cls ≠ "java/lang/invoke/VarHandle" ∧ (parseMethodDescriptor y.desc).map (fun d => d.parameters.length) = some n) (hR : d + 1 ≤ R.frames) (hL : 30 * (d + 1) ≤ R.locals) (hm : maxL ≤ 11) (hcs : cells ≤ R.cells) (hss : slots ≤ R.slots) (hK : sw_XK D k s) (hP : sw_XP D g k p0 a b1 ln w pg lf H) (hn : As.length = n) (hsz : ls.size = nL) (hrest : (rest.map fun v => v.category).sum ≤ 8) (hdg : decode cc pc = .ok (.invokevirtual index, 3)) (hst : st = As.reverse ++ .ref (g 0) :: rest) (kk : ∀ r, post r → W p l e R s m args below meth c H locs cells slots Q (F0 m (pc + 3) ls (.int r :: rest))) : W p l e R s m args below meth c H locs cells slots Q (F0 m pc ls st) := sc_ro S hM hG hd hR hL hm hcs hss (fun a U g mk q => ⟨q.1, sw_XK.moved (u := U) (U := U.calling g mk a) (Vm.Alike.refl U.vm) q.2⟩) (va_recv hK hP (ci := 0) (q0 := 0) rfl rfl) (fun U hU hW => ⟨by rw [hU]; exact hP, sw_XK.moved hW.alike hK⟩) hn hsz hrest hdg hst kk
theorem xc_wi {S0 : Type} {post : Int32 → S0 → Prop} {Bw : S0 → Heap → Prop} (S : CallFix p m c cc nL s args lw_all own) (hM : Met l y (ws_ y bytes maxL ret) (sw_rm d) (va_Pc (.ref (g 0) :: As) (fun U => sw_XP D g k p0 a b1 ln w pg lf U.heap ∧ sw_XK D k U)) (va_Qi post (fun u t => Bw u t.heap) (sw_XA g)) 0 0 (sw_XA g)) (hG : GoodIn lw_all (wsV own index RX0 y (ws_ y bytes maxL ret))) (hd : y.cls = RX0 ∧ y.cls ≠ "java/lang/invoke/MethodHandle" ∧ y.cls ≠ "java/lang/invoke/VarHandle" ∧ (parseMethodDescriptor y.desc).map (fun d => d.parameters.length) = some n) (hR : d + 1 ≤ R.frames) (hL : 30 * (d + 1) ≤ R.locals) (hm : maxL ≤ 11) (hcs : cells ≤ R.cells) (hss : slots ≤ R.slots) (hK : sw_XK D k s) (hP : sw_XP D g k p0 a b1 ln w pg lf H) (hS : va_S (sw_XA g) H0 H locs) (hn : As.length = n) (hsz : ls.size = nL) (hrest : (rest.map fun v => v.category).sum ≤ 8) (hdg : decode cc pc = .ok (.invokevirtual index, 3)) (hst : st = As.reverse ++ .ref (g 0) :: rest) (kk : ∀ (r : Int32) (u : S0) (H : Heap) (locs : List Loc), post r u → Bw u H → va_S (sw_XA g) H0 H locs → W p l e R s m args below meth c H locs cells slots Q (F0 m (pc + 3) ls (.int r :: rest))) : W p l e R s m args below meth c H locs cells slots Q (F0 m pc ls st) := sc_wi S hM hG hd hR hL hm hcs hss (fun a U g mk q => ⟨q.1, sw_XK.moved (u := U) (U := U.calling g mk a) (Vm.Alike.refl U.vm) q.2⟩) (va_recv hK hP (ci := 0) (q0 := 0) rfl rfl) (fun U hU hW => ⟨by rw [hU]; exact hP, sw_XK.moved hW.alike hK⟩) hS (fun _ h => h) hn hsz hrest hdg hst (fun r u H1 locs1 h1 h2 _ _ h5 => kk r u H1 locs1 h1 h2 h5)
theorem xk_wi {S0 : Type} {post : Int32 → S0 → Prop} {Bw : S0 → Heap → Prop} (S : CallFix p m c cc nL s args lw_all own) (hM : Met l y (ws_ y bytes maxL ret) (sw_rm d) (va_Pc (.ref (g 0) :: As) (fun U => sw_XP D g k p0 a b1 ln w pg lf U.heap ∧ sw_XK D k U)) (va_Qi post (fun u t => Bw u t.heap) (sw_XA g)) 0 0 (sw_XA g)) (hG : GoodIn lw_all (wsV own index RX0 y (ws_ y bytes maxL ret))) (hd : y.cls = RX0 ∧ y.cls ≠ "java/lang/invoke/MethodHandle" ∧ y.cls ≠ "java/lang/invoke/VarHandle" ∧ (parseMethodDescriptor y.desc).map (fun d => d.parameters.length) = some n) (hR : d + 1 ≤ R.frames) (hL : 30 * (d + 1) ≤ R.locals) (hm : maxL ≤ 11) (hcs : cells ≤ R.cells) (hss : slots ≤ R.slots) (hK : sw_XK D k s) (hP : sw_XP D g k p0 a b1 ln w pg lf H) (hS : va_S A0 H0 H locs) (hA : ∀ q, sw_XA g q → A0 q) (hn : As.length = n) (hsz : ls.size = nL) (hrest : (rest.map fun v => v.category).sum ≤ 8) (hdg : decode cc pc = .ok (.invokevirtual index, 3)) (hst : st = As.reverse ++ .ref (g 0) :: rest) (kk : ∀ (r : Int32) (u : S0) (H1 : Heap) (locs : List Loc), post r u → Bw u H1 → H.size ≤ H1.size → (∀ q : Nat, q < H.size → ¬ sw_XA g q → H1[q]? = H[q]?) → va_S A0 H0 H1 locs → W p l e R s m args below meth c H1 locs cells slots Q (F0 m (pc + 3) ls (.int r :: rest))) : W p l e R s m args below meth c H locs cells slots Q (F0 m pc ls st) := sc_wi S hM hG hd hR hL hm hcs hss (fun a U g mk q => ⟨q.1, sw_XK.moved (u := U) (U := U.calling g mk a) (Vm.Alike.refl U.vm) q.2⟩) (va_recv hK hP (ci := 0) (q0 := 0) rfl rfl) (fun U hU hW => ⟨by rw [hU]; exact hP, sw_XK.moved hW.alike hK⟩) hS hA hn hsz hrest hdg hst kk
theorem xc_wv {S0 : Type} {post : S0 → Prop} {Bw : S0 → Heap → Prop} (S : CallFix p m c cc nL s args lw_all own) (hM : Met l y (ws_ y bytes maxL ret) (sw_rm d) (va_Pc (.ref (g 0) :: As) (fun U => sw_XP D g k p0 a b1 ln w pg lf U.heap ∧ sw_XK D k U)) (va_Qv post (fun u t => Bw u t.heap) (sw_XA g)) 0 0 (sw_XA g)) (hG : GoodIn lw_all (wsV own index RX0 y (ws_ y bytes maxL ret))) (hd : y.cls = RX0 ∧ y.cls ≠ "java/lang/invoke/MethodHandle" ∧ y.cls ≠ "java/lang/invoke/VarHandle" ∧ (parseMethodDescriptor y.desc).map (fun d => d.parameters.length) = some n) (hR : d + 1 ≤ R.frames) (hL : 30 * (d + 1) ≤ R.locals) (hm : maxL ≤ 11) (hcs : cells ≤ R.cells) (hss : slots ≤ R.slots) (hK : sw_XK D k s) (hP : sw_XP D g k p0 a b1 ln w pg lf H) (hS : va_S (sw_XA g) H0 H locs) (hn : As.length = n) (hsz : ls.size = nL) (hrest : (rest.map fun v => v.category).sum ≤ 8) (hdg : decode cc pc = .ok (.invokevirtual index, 3)) (hst : st = As.reverse ++ .ref (g 0) :: rest) (kk : ∀ (u : S0) (H : Heap) (locs : List Loc), post u → Bw u H → va_S (sw_XA g) H0 H locs → W p l e R s m args below meth c H locs cells slots Q (F0 m (pc + 3) ls rest)) : W p l e R s m args below meth c H locs cells slots Q (F0 m pc ls st) := sc_wv S hM hG hd hR hL hm hcs hss (fun a U g mk q => ⟨q.1, sw_XK.moved (u := U) (U := U.calling g mk a) (Vm.Alike.refl U.vm) q.2⟩) (va_recv hK hP (ci := 0) (q0 := 0) rfl rfl) (fun U hU hW => ⟨by rw [hU]; exact hP, sw_XK.moved hW.alike hK⟩) hS (fun _ h => h) hn hsz hrest hdg hst (fun u H1 locs1 h1 h2 _ _ h5 => kk u H1 locs1 h1 h2 h5)
theorem xk_wv {S0 : Type} {post : S0 → Prop} {Bw : S0 → Heap → Prop} (S : CallFix p m c cc nL s args lw_all own) (hM : Met l y (ws_ y bytes maxL ret) (sw_rm d) (va_Pc (.ref (g 0) :: As) (fun U => sw_XP D g k p0 a b1 ln w pg lf U.heap ∧ sw_XK D k U)) (va_Qv post (fun u t => Bw u t.heap) (sw_XA g)) 0 0 (sw_XA g)) (hG : GoodIn lw_all (wsV own index RX0 y (ws_ y bytes maxL ret))) (hd : y.cls = RX0 ∧ y.cls ≠ "java/lang/invoke/MethodHandle" ∧ y.cls ≠ "java/lang/invoke/VarHandle" ∧ (parseMethodDescriptor y.desc).map (fun d => d.parameters.length) = some n) (hR : d + 1 ≤ R.frames) (hL : 30 * (d + 1) ≤ R.locals) (hm : maxL ≤ 11) (hcs : cells ≤ R.cells) (hss : slots ≤ R.slots) (hK : sw_XK D k s) (hP : sw_XP D g k p0 a b1 ln w pg lf H) (hS : va_S A0 H0 H locs) (hA : ∀ q, sw_XA g q → A0 q) (hn : As.length = n) (hsz : ls.size = nL) (hrest : (rest.map fun v => v.category).sum ≤ 8) (hdg : decode cc pc = .ok (.invokevirtual index, 3)) (hst : st = As.reverse ++ .ref (g 0) :: rest) (kk : ∀ (u : S0) (H1 : Heap) (locs : List Loc), post u → Bw u H1 → H.size ≤ H1.size → (∀ q : Nat, q < H.size → ¬ sw_XA g q → H1[q]? = H[q]?) → va_S A0 H0 H1 locs → W p l e R s m args below meth c H1 locs cells slots Q (F0 m (pc + 3) ls rest)) : W p l e R s m args below meth c H locs cells slots Q (F0 m pc ls st) := sc_wv S hM hG hd hR hL hm hcs hss (fun a U g mk q => ⟨q.1, sw_XK.moved (u := U) (U := U.calling g mk a) (Vm.Alike.refl U.vm) q.2⟩) (va_recv hK hP (ci := 0) (q0 := 0) rfl rfl) (fun U hU hW => ⟨by rw [hU]; exact hP, sw_XK.moved hW.alike hK⟩) hS hA hn hsz hrest hdg hst kk
theorem mc_ro {post : Int32 → Prop} (S : CallFix p m c cc nL s args lw_all own) (hM : Met l y (ws_ y bytes maxL ret) (sw_rm d) (va_Pc (.ref (g 0) :: As) (fun U => sw_MP D g k p0 a b1 ln lf nr U.heap ∧ sw_MK D k U)) (vp_Si post) 0 0 (fun _ => False)) (hG : GoodIn lw_all (wsV own index RX1 y (ws_ y bytes maxL ret))) (hd : y.cls = RX1 ∧ y.cls ≠ "java/lang/invoke/MethodHandle" ∧ y.cls ≠ "java/lang/invoke/VarHandle" ∧ (parseMethodDescriptor y.desc).map (fun d => d.parameters.length) = some n) (hR : d + 1 ≤ R.frames) (hL : 30 * (d + 1) ≤ R.locals) (hm : maxL ≤ 11) (hcs : cells ≤ R.cells) (hss : slots ≤ R.slots) (hK : sw_MK D k s) (hP : sw_MP D g k p0 a b1 ln lf nr H) (hn : As.length = n) (hsz : ls.size = nL) (hrest : (rest.map fun v => v.category).sum ≤ 8) (hdg : decode cc pc = .ok (.invokevirtual index, 3)) (hst : st = As.reverse ++ .ref (g 0) :: rest) (kk : ∀ r, post r → W p l e R s m args below meth c H locs cells slots Q (F0 m (pc + 3) ls (.int r :: rest))) : W p l e R s m args below meth c H locs cells slots Q (F0 m pc ls st) := sc_ro S hM hG hd hR hL hm hcs hss (fun a U g mk q => ⟨q.1, sw_MK.moved (u := U) (U := U.calling g mk a) (Vm.Alike.refl U.vm) q.2⟩) (va_recv hK hP (ci := 1) (q0 := 0) rfl rfl) (fun U hU hW => ⟨by rw [hU]; exact hP, sw_MK.moved hW.alike hK⟩) hn hsz hrest hdg hst kk
theorem mc_wi {S0 : Type} {post : Int32 → S0 → Prop} {Bw : S0 → Heap → Prop} (S : CallFix p m c cc nL s args lw_all own) (hM : Met l y (ws_ y bytes maxL ret) (sw_rm d) (va_Pc (.ref (g 0) :: As) (fun U => sw_MP D g k p0 a b1 ln lf nr U.heap ∧ sw_MK D k U)) (va_Qi post (fun u t => Bw u t.heap) (sw_XA g)) 0 0 (sw_XA g)) (hG : GoodIn lw_all (wsV own index RX1 y (ws_ y bytes maxL ret))) (hd : y.cls = RX1 ∧ y.cls ≠ "java/lang/invoke/MethodHandle" ∧ y.cls ≠ "java/lang/invoke/VarHandle" ∧ (parseMethodDescriptor y.desc).map (fun d => d.parameters.length) = some n) (hR : d + 1 ≤ R.frames) (hL : 30 * (d + 1) ≤ R.locals) (hm : maxL ≤ 11) (hcs : cells ≤ R.cells) (hss : slots ≤ R.slots) (hK : sw_MK D k s) (hP : sw_MP D g k p0 a b1 ln lf nr H) (hS : va_S (sw_XA g) H0 H locs) (hn : As.length = n) (hsz : ls.size = nL) (hrest : (rest.map fun v => v.category).sum ≤ 8) (hdg : decode cc pc = .ok (.invokevirtual index, 3)) (hst : st = As.reverse ++ .ref (g 0) :: rest) (kk : ∀ (r : Int32) (u : S0) (H : Heap) (locs : List Loc), post r u → Bw u H → va_S (sw_XA g) H0 H locs → W p l e R s m args below meth c H locs cells slots Q (F0 m (pc + 3) ls (.int r :: rest))) : W p l e R s m args below meth c H locs cells slots Q (F0 m pc ls st) := sc_wi S hM hG hd hR hL hm hcs hss (fun a U g mk q => ⟨q.1, sw_MK.moved (u := U) (U := U.calling g mk a) (Vm.Alike.refl U.vm) q.2⟩) (va_recv hK hP (ci := 1) (q0 := 0) rfl rfl) (fun U hU hW => ⟨by rw [hU]; exact hP, sw_MK.moved hW.alike hK⟩) hS (fun _ h => h) hn hsz hrest hdg hst (fun r u H1 locs1 h1 h2 _ _ h5 => kk r u H1 locs1 h1 h2 h5)
theorem mk_wi {S0 : Type} {post : Int32 → S0 → Prop} {Bw : S0 → Heap → Prop} (S : CallFix p m c cc nL s args lw_all own) (hM : Met l y (ws_ y bytes maxL ret) (sw_rm d) (va_Pc (.ref (g 0) :: As) (fun U => sw_MP D g k p0 a b1 ln lf nr U.heap ∧ sw_MK D k U)) (va_Qi post (fun u t => Bw u t.heap) (sw_XA g)) 0 0 (sw_XA g)) (hG : GoodIn lw_all (wsV own index RX1 y (ws_ y bytes maxL ret))) (hd : y.cls = RX1 ∧ y.cls ≠ "java/lang/invoke/MethodHandle" ∧ y.cls ≠ "java/lang/invoke/VarHandle" ∧ (parseMethodDescriptor y.desc).map (fun d => d.parameters.length) = some n) (hR : d + 1 ≤ R.frames) (hL : 30 * (d + 1) ≤ R.locals) (hm : maxL ≤ 11) (hcs : cells ≤ R.cells) (hss : slots ≤ R.slots) (hK : sw_MK D k s) (hP : sw_MP D g k p0 a b1 ln lf nr H) (hS : va_S A0 H0 H locs) (hA : ∀ q, sw_XA g q → A0 q) (hn : As.length = n) (hsz : ls.size = nL) (hrest : (rest.map fun v => v.category).sum ≤ 8) (hdg : decode cc pc = .ok (.invokevirtual index, 3)) (hst : st = As.reverse ++ .ref (g 0) :: rest) (kk : ∀ (r : Int32) (u : S0) (H1 : Heap) (locs : List Loc), post r u → Bw u H1 → H.size ≤ H1.size → (∀ q : Nat, q < H.size → ¬ sw_XA g q → H1[q]? = H[q]?) → va_S A0 H0 H1 locs → W p l e R s m args below meth c H1 locs cells slots Q (F0 m (pc + 3) ls (.int r :: rest))) : W p l e R s m args below meth c H locs cells slots Q (F0 m pc ls st) := sc_wi S hM hG hd hR hL hm hcs hss (fun a U g mk q => ⟨q.1, sw_MK.moved (u := U) (U := U.calling g mk a) (Vm.Alike.refl U.vm) q.2⟩) (va_recv hK hP (ci := 1) (q0 := 0) rfl rfl) (fun U hU hW => ⟨by rw [hU]; exact hP, sw_MK.moved hW.alike hK⟩) hS hA hn hsz hrest hdg hst kk
theorem mc_wv {S0 : Type} {post : S0 → Prop} {Bw : S0 → Heap → Prop} (S : CallFix p m c cc nL s args lw_all own) (hM : Met l y (ws_ y bytes maxL ret) (sw_rm d) (va_Pc (.ref (g 0) :: As) (fun U => sw_MP D g k p0 a b1 ln lf nr U.heap ∧ sw_MK D k U)) (va_Qv post (fun u t => Bw u t.heap) (sw_XA g)) 0 0 (sw_XA g)) (hG : GoodIn lw_all (wsV own index RX1 y (ws_ y bytes maxL ret))) (hd : y.cls = RX1 ∧ y.cls ≠ "java/lang/invoke/MethodHandle" ∧ y.cls ≠ "java/lang/invoke/VarHandle" ∧ (parseMethodDescriptor y.desc).map (fun d => d.parameters.length) = some n) (hR : d + 1 ≤ R.frames) (hL : 30 * (d + 1) ≤ R.locals) (hm : maxL ≤ 11) (hcs : cells ≤ R.cells) (hss : slots ≤ R.slots) (hK : sw_MK D k s) (hP : sw_MP D g k p0 a b1 ln lf nr H) (hS : va_S (sw_XA g) H0 H locs) (hn : As.length = n) (hsz : ls.size = nL) (hrest : (rest.map fun v => v.category).sum ≤ 8) (hdg : decode cc pc = .ok (.invokevirtual index, 3)) (hst : st = As.reverse ++ .ref (g 0) :: rest) (kk : ∀ (u : S0) (H : Heap) (locs : List Loc), post u → Bw u H → va_S (sw_XA g) H0 H locs → W p l e R s m args below meth c H locs cells slots Q (F0 m (pc + 3) ls rest)) : W p l e R s m args below meth c H locs cells slots Q (F0 m pc ls st) := sc_wv S hM hG hd hR hL hm hcs hss (fun a U g mk q => ⟨q.1, sw_MK.moved (u := U) (U := U.calling g mk a) (Vm.Alike.refl U.vm) q.2⟩) (va_recv hK hP (ci := 1) (q0 := 0) rfl rfl) (fun U hU hW => ⟨by rw [hU]; exact hP, sw_MK.moved hW.alike hK⟩) hS (fun _ h => h) hn hsz hrest hdg hst (fun u H1 locs1 h1 h2 _ _ h5 => kk u H1 locs1 h1 h2 h5)
theorem mk_wv {S0 : Type} {post : S0 → Prop} {Bw : S0 → Heap → Prop} (S : CallFix p m c cc nL s args lw_all own) (hM : Met l y (ws_ y bytes maxL ret) (sw_rm d) (va_Pc (.ref (g 0) :: As) (fun U => sw_MP D g k p0 a b1 ln lf nr U.heap ∧ sw_MK D k U)) (va_Qv post (fun u t => Bw u t.heap) (sw_XA g)) 0 0 (sw_XA g)) (hG : GoodIn lw_all (wsV own index RX1 y (ws_ y bytes maxL ret))) (hd : y.cls = RX1 ∧ y.cls ≠ "java/lang/invoke/MethodHandle" ∧ y.cls ≠ "java/lang/invoke/VarHandle" ∧ (parseMethodDescriptor y.desc).map (fun d => d.parameters.length) = some n) (hR : d + 1 ≤ R.frames) (hL : 30 * (d + 1) ≤ R.locals) (hm : maxL ≤ 11) (hcs : cells ≤ R.cells) (hss : slots ≤ R.slots) (hK : sw_MK D k s) (hP : sw_MP D g k p0 a b1 ln lf nr H) (hS : va_S A0 H0 H locs) (hA : ∀ q, sw_XA g q → A0 q) (hn : As.length = n) (hsz : ls.size = nL) (hrest : (rest.map fun v => v.category).sum ≤ 8) (hdg : decode cc pc = .ok (.invokevirtual index, 3)) (hst : st = As.reverse ++ .ref (g 0) :: rest) (kk : ∀ (u : S0) (H1 : Heap) (locs : List Loc), post u → Bw u H1 → H.size ≤ H1.size → (∀ q : Nat, q < H.size → ¬ sw_XA g q → H1[q]? = H[q]?) → va_S A0 H0 H1 locs → W p l e R s m args below meth c H1 locs cells slots Q (F0 m (pc + 3) ls rest)) : W p l e R s m args below meth c H locs cells slots Q (F0 m pc ls st) := sc_wv S hM hG hd hR hL hm hcs hss (fun a U g mk q => ⟨q.1, sw_MK.moved (u := U) (U := U.calling g mk a) (Vm.Alike.refl U.vm) q.2⟩) (va_recv hK hP (ci := 1) (q0 := 0) rfl rfl) (fun U hU hW => ⟨by rw [hU]; exact hP, sw_MK.moved hW.alike hK⟩) hS hA hn hsz hrest hdg hst kk
end SWD
end
section
/-! more PLAIN LAWS, as the walks ask for them -/
theorem sn_has_f {p : Nat} {x : Int32} (h : sw_inb x 10 = false) : sw_has p x = false := by
  unfold sw_has
  rw [h]
  rfl
theorem sw_od_s1 {a b : Nat → Nat} {p n : Nat} (h : p.testBit n = true) : sw_od a b p (n + 1) = sw_od a b p n ^^^ (2 ^ a n ^^^ 2 ^ b n) := by simp [sw_od, h]
theorem sw_od_s0 {a b : Nat → Nat} {p n : Nat} (h : p.testBit n = false) : sw_od a b p (n + 1) = sw_od a b p n := by simp [sw_od, h]
theorem sw_tc_s1 {a b : Nat → Nat} {p n : Nat} (h : p.testBit n = true) : sw_tc a b p (n + 1) = sw_tc a b p n ||| sw_E a b n := by simp [sw_tc, h]
theorem sw_tc_s0 {a b : Nat → Nat} {p n : Nat} (h : p.testBit n = false) : sw_tc a b p (n + 1) = sw_tc a b p n := by simp [sw_tc, h]
theorem sw_rs_s1 {f : Nat → Nat} {n : Nat} (h : 0 < f n) : sw_rs f (n + 1) = sw_rs f n ||| 2 ^ n := by simp [sw_rs, h]
theorem sw_rs_s0 {f : Nat → Nat} {n : Nat} (h : f n = 0) : sw_rs f (n + 1) = sw_rs f n := by simp [sw_rs, h]
theorem sw_ln_s1 {f : Nat → Nat} {p n : Nat} (h : p.testBit n = true) : sw_ln f p (n + 1) = sw_ln f p n + f n := by simp [sw_ln, h]
theorem sw_ln_s0 {f : Nat → Nat} {p n : Nat} (h : p.testBit n = false) : sw_ln f p (n + 1) = sw_ln f p n := by simp [sw_ln, h]
theorem sw_st_f {e r : Nat} {h : Bool} (q : h = false) : sw_st e r h = r := by simp [sw_st, q]
theorem sw_st_0 {e r : Nat} {h : Bool} (q : e &&& r = 0) : sw_st e r h = r := by simp [sw_st, q]
theorem sw_st_1 {e r : Nat} {h : Bool} (q : h = true) (z : e &&& r ≠ 0) : sw_st e r h = r ||| e := by simp [sw_st, q, z]
theorem sw_an_lt {x y n : Nat} (h : x < n) : sw_an x y < n := Nat.lt_of_le_of_lt (sw_sub_le (sw_an_sub x y)) h
theorem sw_and_lt {x y n : Nat} (h : x < n) : x &&& y < n := Nat.lt_of_le_of_lt Nat.and_le_left h
theorem sw_wS_le {a b l w0 w : Nat → Nat} {set c n : Nat} (hI : sw_wI a b l set w0) (h : sw_wS w0 c n w) {j : Nat} (hj : j < 36) : w j ≤ 100000 := by
  have h1 := h j hj
  have h2 := sw_wI_le hI hj
  rw [h1]
  split <;> omega
theorem sw_pu_of {w P : Nat → Nat} {mask i r : Nat} (hz : ∀ t, t < i → mask.testBit t = false) (hi : i < 6 → mask.testBit i = true) (h : i < 6 → sw_pl w P mask i 6 r) : sw_pu w P mask r := by
  intro low h6 hb hl
  rcases Nat.lt_trichotomy low i with q | q | q
  · rw [hz low q] at hb
    exact absurd hb (by decide)
  · subst q
    exact h h6
  · have h1 := hl i q
    rw [hi (by omega)] at h1
    exact absurd h1 (by decide)
theorem sw_od_lt {a b l : Nat → Nat} (hr : sw_rng a b l) (S : Nat) : ∀ n, n ≤ 10 → sw_od a b S n < 64
  | 0, _ => by show 0 < 64; decide
  | n + 1, h => by
    have ih := sw_od_lt hr S n (by omega)
    obtain ⟨ha, hb, -⟩ := hr n (by omega)
    unfold sw_od
    split
    · exact Nat.xor_lt_two_pow (n := 6) ih (Nat.xor_lt_two_pow (n := 6) (sw_p64 ha) (sw_p64 hb))
    · exact ih
/-- all streets together are an extra set: there always is one -/
theorem sw_min_p {a b l : Nat → Nat} (hr : sw_rng a b l) {p v : Nat} (h : sw_min a b l p (sw_od a b p 10) v) : v ≤ 200 := by
  have h1 := h.2 p (sw_sub_refl p) rfl
  have h2 := sw_ln_bound (l := l) p 10 (fun s hs => (hr s hs).2.2)
  omega
theorem sw_gi_lt {a b l : Nat → Nat} {p n want least opn chosen : Nat} (hr : sw_rng a b l) (hp : p < 1024) (h : sw_gi a b l p n want least opn chosen) : opn < 1024 ∧ want < 64 ∧ least < 100000 := by
  obtain ⟨h1, h2, h3, h4, -⟩ := h
  refine ⟨Nat.lt_of_le_of_lt (sw_sub_le (fun i hi => ?_)) hp, ?_, h4⟩
  · rw [h1 i, Bool.and_eq_true] at hi
    exact hi.2
  · rw [h3]
    exact Nat.xor_lt_two_pow (n := 6) (sw_od_lt hr p 10 (Nat.le_refl _)) (sw_od_lt hr chosen 10 (Nat.le_refl _))
/-- there is a least set, and a first one of them -/
theorem sw_best_ex {a b l : Nat → Nat} (hr : sw_rng a b l) {p : Nat} (hp : p < 1024) : ∃ B, sw_best a b l p B := by
  obtain ⟨v, -, hv⟩ := sw_min_ex (a := a) (b := b) (l := l) (fun s hs => (hr s hs).2.2) p (sw_od a b p 10)
  have hlt : v < 100000 := by have := sw_min_p hr hv; omega
  have go : ∀ m n want least opn chosen, n + m = 10 → sw_gi a b l p n want least opn chosen → ∃ B, sw_best a b l p B := by
    intro m
    induction m with
    | zero =>
      intro n want least opn chosen hn h
      have e : n = 10 := by omega
      subst e
      exact ⟨chosen, sw_gi_e hp h⟩
    | succ m ih =>
      intro n want least opn chosen hn h
      cases hb : p.testBit n with
      | false => exact ih (n + 1) _ _ _ _ (by omega) (sw_gi_n h hb)
      | true =>
        obtain ⟨u, -, hu⟩ := sw_min_ex (a := a) (b := b) (l := l) (fun s hs => (hr s hs).2.2) (sw_an opn (2 ^ n)) want
        by_cases e : u = least
        · subst e
          exact ih (n + 1) _ _ _ _ (by omega) (sw_gi_keep h hu)
        · exact ih (n + 1) _ _ _ _ (by omega) (sw_gi_take (by omega) hb h hu e).2
  exact go 10 0 _ _ _ _ rfl (sw_gi_0 hv hlt)
/-- a length, or -1 when it is far -/
def sw_fv (v : Nat) : Int32 := if v < 100000 then nI v else -1
theorem sw_fv_t {v : Nat} (h : v < 100000) : sw_fv v = nI v := if_pos h
theorem sw_fv_f {v : Nat} (h : 100000 ≤ v) : sw_fv v = -1 := if_neg (by omega)
theorem sw_nx_s {f : Nat → Bool} {i : Nat} (h : i < 10) (hf : f i = true) : sw_nx f (10 - i) i = some i := by
  rw [show 10 - i = (10 - (i + 1)) + 1 by omega]
  simp [sw_nx, hf]
theorem sw_nx_n {f : Nat → Bool} {i : Nat} (h : i < 10) (hf : f i = false) : sw_nx f (10 - i) i = sw_nx f (10 - (i + 1)) (i + 1) := by
  rw [show 10 - i = (10 - (i + 1)) + 1 by omega]
  simp [sw_nx, hf]
theorem sw_gd_0 {a b f : Nat → Nat} {at0 s : Nat} (h : f s = 0) : sw_gd a b f at0 s = false := by simp [sw_gd, h]
theorem sw_gd_n {a b f : Nat → Nat} {at0 s : Nat} (h1 : a s ≠ at0) (h2 : b s ≠ at0) : sw_gd a b f at0 s = false := by simp [sw_gd, h1, h2]
theorem sw_gd_al {a b f : Nat → Nat} {at0 s : Nat} (h : 0 < f s) (h1 : a s = at0 ∨ b s = at0) : sw_gd a b f at0 s = sw_al a (sw_rs (va_up f s (f s - 1)) 10) (sw_rc a b (sw_rs (va_up f s (f s - 1)) 10) (2 ^ (a s + b s - at0)) 6) 10 := by
  have e : (decide (a s = at0) || decide (b s = at0)) = true := by simpa using h1
  unfold sw_gd
  rw [e, decide_eq_true h]
  rfl
theorem sw_nxt_some {a b f : Nat → Nat} {at0 s : Nat} (h : sw_nxt a b f at0 = some s) : s < 10 ∧ 0 < f s ∧ (a s = at0 ∨ b s = at0) := by
  obtain ⟨h1, h2, h3⟩ := sw_nx_some 10 0 s h
  unfold sw_gd at h3
  simp only [Bool.and_eq_true] at h3
  exact ⟨by omega, by simpa using h3.1.1, by simpa using h3.1.2⟩
theorem sw_nxt_lt {a b f : Nat → Nat} {at0 : Nat} : ∀ n, sw_nxt a b f at0 = some n → n < 2 ^ 31 := fun n h => by
  have := (sw_nxt_some h).1
  omega
theorem sw_wk_none {a b f : Nat → Nat} {at0 : Nat} (h : sw_nxt a b f at0 = none) : ∀ n, sw_wk a b n f at0 = none
  | 0 => h
  | n + 1 => by simp [sw_wk, h]
theorem sw_wk_s {a b f : Nat → Nat} {at0 s n : Nat} (h : sw_nxt a b f at0 = some s) : sw_wk a b (n + 1) f at0 = sw_wk a b n (va_up f s (f s - 1)) (a s + b s - at0) := by simp [sw_wk, h]
/-- a corner that no street touches: no walk from there -/
theorem sw_wk_not {a b f : Nat → Nat} {p at0 : Nat} (hf : ∀ s, s < 10 → 0 < f s → p.testBit s = true) (h : (sw_tc a b p 10).testBit at0 = false) (n : Nat) : sw_wk a b n f at0 = none := by
  refine sw_wk_none (sw_nx_none 10 0 (fun s _ hs => ?_)) n
  by_cases h0 : 0 < f s
  · have hp := hf s (by omega) h0
    have hno : ∀ t, a s = t ∨ b s = t → t ≠ at0 := by
      intro t ht e
      subst e
      have := (sw_tc_bit (a := a) (b := b) (X := p) (v := t) 10).mpr ⟨s, by omega, hp, ht⟩
      rw [h] at this
      exact absurd this (by decide)
    exact sw_gd_n (hno _ (Or.inl rfl)) (hno _ (Or.inr rfl))
  · exact sw_gd_0 (by omega)
/-- how often each street is gone along, at first -/
def sw_f0 (p B : Nat) : Nat → Nat := fun s => (p.testBit s).toNat + (B.testBit s).toNat
theorem sw_f0_le (p B s : Nat) : sw_f0 p B s ≤ 2 := by
  unfold sw_f0
  have h1 := Bool.toNat_le (p.testBit s)
  have h2 := Bool.toNat_le (B.testBit s)
  omega
theorem sw_f0_pos {p B s : Nat} (hB : sw_sub B p) (h : 0 < sw_f0 p B s) : p.testBit s = true := by
  unfold sw_f0 at h
  cases hp : p.testBit s with
  | true => rfl
  | false =>
    cases hb : B.testBit s with
    | false =>
      rw [hp, hb] at h
      exact absurd h (by decide)
    | true => rw [← hp]; exact hB s hb
/-- what is asked of the places 0 .. 9 alone -/
theorem sw_rs_eq {f h : Nat → Nat} : ∀ n, (∀ s, s < n → f s = h s) → sw_rs f n = sw_rs h n
  | 0, _ => rfl
  | n + 1, q => by
    have ih := sw_rs_eq n (fun s hs => q s (by omega))
    simp only [sw_rs, ih, q n (by omega)]
theorem sw_up_eq {f h : Nat → Nat} {n : Nat} (q : ∀ s, s < n → f s = h s) {t : Nat} (ht : t < n) : ∀ s, s < n → va_up f t (f t - 1) s = va_up h t (h t - 1) s := by
  intro s hs
  unfold va_up
  rw [q t ht, q s hs]
theorem sw_nx_eq {f h : Nat → Bool} : ∀ n i, (∀ k, i ≤ k → k < i + n → f k = h k) → sw_nx f n i = sw_nx h n i
  | 0, _, _ => rfl
  | n + 1, i, q => by
    have ih := sw_nx_eq n (i + 1) (fun k h1 h2 => q k (by omega) (by omega))
    simp only [sw_nx, ih, q i (by omega) (by omega)]
theorem sw_nxt_eq {a b f h : Nat → Nat} {at0 : Nat} (q : ∀ s, s < 10 → f s = h s) : sw_nxt a b f at0 = sw_nxt a b h at0 := by
  refine sw_nx_eq 10 0 (fun s _ hs => ?_)
  unfold sw_gd
  have e : sw_rs (va_up f s (f s - 1)) 10 = sw_rs (va_up h s (h s - 1)) 10 := sw_rs_eq 10 (sw_up_eq q (by omega))
  rw [e, q s (by omega)]
theorem sw_wk_eq {a b : Nat → Nat} : ∀ (n : Nat) {f h : Nat → Nat} {at0 : Nat}, (∀ s, s < 10 → f s = h s) → sw_wk a b n f at0 = sw_wk a b n h at0
  | 0, _, _, _, q => sw_nxt_eq q
  | n + 1, f, h, at0, q => by
    have e := sw_nxt_eq (a := a) (b := b) (at0 := at0) q
    cases hn : sw_nxt a b h at0 with
    | none => rw [sw_wk_none (e.trans hn), sw_wk_none hn]
    | some s =>
      rw [sw_wk_s (e.trans hn), sw_wk_s hn]
      exact sw_wk_eq n (sw_up_eq q (sw_nxt_some hn).1)
/-- an int within 0 .. 20 -/
theorem sn_in_21 {x : Int32} (h1 : ¬ x < 0) (h2 : x ≤ nI 20) : sw_inb x 21 = true := by
  refine sn_in_ok h1 (fun q => ?_)
  rw [Int32.le_iff_toInt_le] at h2 q
  rw [nI_toInt (by decide)] at h2 q
  omega
theorem sn_in_21f {x : Int32} (h2 : ¬ x ≤ nI 20) : sw_inb x 21 = false := by
  refine sn_in_ge ?_
  rw [Int32.le_iff_toInt_le] at h2 ⊢
  rw [nI_toInt (by decide)] at h2 ⊢
  omega
theorem sn_in_20 {x : Int32} (h1 : ¬ x < 0) (h2 : ¬ nI 19 < x) : sw_inb x 20 = true := by
  refine sn_in_ok h1 (fun q => ?_)
  rw [Int32.lt_iff_toInt_lt] at h2
  rw [Int32.le_iff_toInt_le] at q
  rw [nI_toInt (by decide)] at h2 q
  omega
theorem sn_in_20f {x : Int32} (h2 : nI 19 < x) : sw_inb x 20 = false := by
  refine sn_in_ge ?_
  rw [Int32.lt_iff_toInt_lt] at h2
  rw [Int32.le_iff_toInt_le]
  rw [nI_toInt (by decide)] at h2 ⊢
  omega
/-- build, close, setLength: what they answer, and the streets behind them -/
def sw_bld (p : Nat) (a b ln : Nat → Nat) (x y z : Int32) : Int32 × Nat × (Nat → Nat) × (Nat → Nat) × (Nat → Nat) :=
  if x ≠ y ∧ sw_inb x 6 = true ∧ sw_inb y 6 = true ∧ sw_inb z 21 = true then
    match sw_nx (fun s => !p.testBit s) 10 0 with
    | none => (-2, p, a, b, ln)
    | some s => (nI s, p ||| 2 ^ s, va_up a s x.toNatClampNeg, va_up b s y.toNatClampNeg, va_up ln s z.toNatClampNeg)
  else (-1, p, a, b, ln)
theorem sw_bld_no {p : Nat} {a b ln : Nat → Nat} {x y z : Int32} (h : ¬ (x ≠ y ∧ sw_inb x 6 = true ∧ sw_inb y 6 = true ∧ sw_inb z 21 = true)) : sw_bld p a b ln x y z = (-1, p, a, b, ln) := if_neg h
theorem sw_bld_full {p : Nat} {a b ln : Nat → Nat} {x y z : Int32} (h : x ≠ y ∧ sw_inb x 6 = true ∧ sw_inb y 6 = true ∧ sw_inb z 21 = true) (hn : sw_nx (fun s => !p.testBit s) 10 0 = none) : sw_bld p a b ln x y z = (-2, p, a, b, ln) := by
  unfold sw_bld
  rw [if_pos h, hn]
theorem sw_bld_some {p : Nat} {a b ln : Nat → Nat} {x y z : Int32} {s : Nat} (h : x ≠ y ∧ sw_inb x 6 = true ∧ sw_inb y 6 = true ∧ sw_inb z 21 = true) (hn : sw_nx (fun s => !p.testBit s) 10 0 = some s) : sw_bld p a b ln x y z = (nI s, p ||| 2 ^ s, va_up a s x.toNatClampNeg, va_up b s y.toNatClampNeg, va_up ln s z.toNatClampNeg) := by
  unfold sw_bld
  rw [if_pos h, hn]
def sw_cls (p : Nat) (x : Int32) : Nat := if sw_has p x = true then sw_an p (2 ^ x.toNatClampNeg) else p
def sw_stl (p : Nat) (ln : Nat → Nat) (x z : Int32) : Nat → Nat := if (sw_has p x && sw_inb z 21) = true then va_up ln x.toNatClampNeg z.toNatClampNeg else ln
end
section
/-! CONTRACTS of StreetWalker: what only reads -/
set_option maxHeartbeats 4000000 in
set_option maxRecDepth 100000 in
theorem cX_isCorner (l : Launch) (x : Int32) : Met l yX0_isCorner (ws_ yX0_isCorner cX0_isCorner 1 (some .boolean)) (sw_rm 0) (va_Pc [.int (x)] (fun _ => True)) (vp_Si (fun r => r = nI (Bool.toNat (sw_inb x 6)))) 0 0 (fun _ => False) := by
  refine so_z (own := RX0) (by decide) rfl (Nat.le_of_ble_eq_true rfl) (fun v h => ⟨_, h⟩) (fun P e R s m args bl mt c Q ls S hR hL hB hl hret => ?_)
  obtain ⟨hx, hb, hml, hown, hts⟩ := id S
  have hl : lv_has ls 1 [(0, .int (x))] := hl
  refine lv_iload_n hx hb dX0_isCorner_0 rfl (lv_at hl 0 rfl) ?_
  refine lv_if_lt (tgt := 14) hx hb dX0_isCorner_1 (by decide) (fun c1 => ?_) (fun c1 => ?_)
  · refine lv_iconst (v := nI 0) hx hb dX0_isCorner_14 (by decide) ?_
    exact hret _ _ _ dX0_isCorner_15 (by rw [sn_in_neg c1]; rfl)
  · refine lv_iload_n hx hb dX0_isCorner_4 rfl (lv_at hl 0 rfl) ?_
    refine lv_bipush (v := nI 6) hx hb dX0_isCorner_5 (by decide) ?_
    refine lv_icmp_ge (tgt := 14) hx hb dX0_isCorner_7 (by decide) (fun c7 => ?_) (fun c7 => ?_)
    · refine lv_iconst (v := nI 0) hx hb dX0_isCorner_14 (by decide) ?_
      exact hret _ _ _ dX0_isCorner_15 (by rw [sn_in_ge c7]; rfl)
    · refine lv_iconst (v := nI 1) hx hb dX0_isCorner_10 (by decide) ?_
      refine lv_goto (tgt := 15) hx hb dX0_isCorner_11 (by decide) ?_
      exact hret _ _ _ dX0_isCorner_15 (by rw [sn_in_ok c1 c7]; rfl)
theorem hdX0_isCorner : yX0_isCorner.cls ≠ "java/lang/invoke/MethodHandle" ∧ yX0_isCorner.cls ≠ "java/lang/invoke/VarHandle" ∧ (parseMethodDescriptor yX0_isCorner.desc).map (fun d => d.parameters.length) = some 1 := by decide +kernel
set_option maxHeartbeats 4000000 in
set_option maxRecDepth 100000 in
theorem cX_has (l : Launch) (D : va_G) (g : Nat → Nat) (k : Nat → ClassId) (p : Nat) (a b ln w pg lf : Nat → Nat) (x : Int32) (hp : p < 1024) : Met l yX0_has (ws_ yX0_has cX0_has 2 (some .boolean)) (sw_rm 0) (va_Pc [.ref (g 0), .int (x)] (fun U => sw_XP D g k p a b ln w pg lf U.heap ∧ sw_XK D k U)) (vp_Si (fun r => r = nI (Bool.toNat (sw_has p x)))) 0 0 (fun _ => False) := by
  refine so_z (own := RX0) (by decide) rfl (Nat.le_of_ble_eq_true rfl) (fun v h => ⟨_, h⟩) (fun P e R s m args bl mt c Q ls S hR hL hB hl hret => ?_)
  obtain ⟨hP, hK⟩ := hB
  obtain ⟨hx, hb, hml, hown, hts⟩ := id S
  have hl : lv_has ls 2 [(0, .ref (g 0)), (1, .int (x))] := hl
  refine lv_iload_n hx hb dX0_has_0 rfl (lv_at hl 1 rfl) ?_
  refine lv_if_lt (tgt := 25) hx hb dX0_has_1 (by decide) (fun c1 => ?_) (fun c1 => ?_)
  · refine lv_iconst (v := nI 0) hx hb dX0_has_25 (by decide) ?_
    exact hret _ _ _ dX0_has_26 (by rw [sn_has_f (sn_in_neg c1)]; rfl)
  · refine lv_iload_n hx hb dX0_has_4 rfl (lv_at hl 1 rfl) ?_
    refine lv_bipush (v := nI 10) hx hb dX0_has_5 (by decide) ?_
    refine lv_icmp_ge (tgt := 25) hx hb dX0_has_7 (by decide) (fun c7 => ?_) (fun c7 => ?_)
    · refine lv_iconst (v := nI 0) hx hb dX0_has_25 (by decide) ?_
      exact hret _ _ _ dX0_has_26 (by rw [sn_has_f (sn_in_ge c7)]; rfl)
    · obtain ⟨s0, hs0, rfl⟩ := sn_in_t (by decide) (sn_in_ok c1 c7)
      refine lv_aload_n hx hb dX0_has_10 rfl (lv_at hl 0 rfl) ?_
      refine xg0 hx hb hts hown hK hP dX0_has_11 ?_
      refine lv_iload_n hx hb dX0_has_14 rfl (lv_at hl 1 rfl) ?_
      refine sr_bit hx hb (by omega) (by omega) dX0_has_15 dX0_has_16 dX0_has_17 ?_
      refine sr_bf (tgt := 25) hx hb dX0_has_18 (by decide) (fun c18 => ?_) (fun c18 => ?_)
      · refine lv_iconst (v := nI 0) hx hb dX0_has_25 (by decide) ?_
        exact hret _ _ _ dX0_has_26 (by rw [sn_has_nI p hs0, c18]; rfl)
      · refine lv_iconst (v := nI 1) hx hb dX0_has_21 (by decide) ?_
        refine lv_goto (tgt := 26) hx hb dX0_has_22 (by decide) ?_
        exact hret _ _ _ dX0_has_26 (by rw [sn_has_nI p hs0, c18]; rfl)
theorem hdX0_has : yX0_has.cls = RX0 ∧ yX0_has.cls ≠ "java/lang/invoke/MethodHandle" ∧ yX0_has.cls ≠ "java/lang/invoke/VarHandle" ∧ (parseMethodDescriptor yX0_has.desc).map (fun d => d.parameters.length) = some 1 := by decide +kernel
set_option maxHeartbeats 4000000 in
set_option maxRecDepth 100000 in
theorem cX_streets (l : Launch) (D : va_G) (g : Nat → Nat) (k : Nat → ClassId) (p : Nat) (a b ln w pg lf : Nat → Nat)  : Met l yX0_streets (ws_ yX0_streets cX0_streets 1 (some .int)) (sw_rm 0) (va_Pc [.ref (g 0)] (fun U => sw_XP D g k p a b ln w pg lf U.heap ∧ sw_XK D k U)) (vp_Si (fun r => r = nI p)) 0 0 (fun _ => False) := by
  refine so_i (own := RX0) (by decide) rfl (Nat.le_of_ble_eq_true rfl) (fun P e R s m args bl mt c Q ls S hR hL hB hl hret => ?_)
  obtain ⟨hP, hK⟩ := hB
  obtain ⟨hx, hb, hml, hown, hts⟩ := id S
  have hl : lv_has ls 1 [(0, .ref (g 0))] := hl
  refine lv_aload_n hx hb dX0_streets_0 rfl (lv_at hl 0 rfl) ?_
  refine xg0 hx hb hts hown hK hP dX0_streets_1 ?_
  exact hret _ _ _ dX0_streets_4 rfl
theorem hdX0_streets : yX0_streets.cls = RX0 ∧ yX0_streets.cls ≠ "java/lang/invoke/MethodHandle" ∧ yX0_streets.cls ≠ "java/lang/invoke/VarHandle" ∧ (parseMethodDescriptor yX0_streets.desc).map (fun d => d.parameters.length) = some 0 := by decide +kernel
set_option maxHeartbeats 4000000 in
set_option maxRecDepth 100000 in
theorem cX_endsOf (l : Launch) (D : va_G) (g : Nat → Nat) (k : Nat → ClassId) (p : Nat) (a b ln w pg lf : Nat → Nat) {i : Nat} (hr : sw_rng a b ln) (hi : i < 10) : Met l yX0_endsOf (ws_ yX0_endsOf cX0_endsOf 2 (some .int)) (sw_rm 0) (va_Pc [.ref (g 0), .int (nI (i))] (fun U => sw_XP D g k p a b ln w pg lf U.heap ∧ sw_XK D k U)) (vp_Si (fun r => r = nI (sw_E a b i))) 0 0 (fun _ => False) := by
  refine so_i (own := RX0) (by decide) rfl (Nat.le_of_ble_eq_true rfl) (fun P e R s m args bl mt c Q ls S hR hL hB hl hret => ?_)
  obtain ⟨hP, hK⟩ := hB
  obtain ⟨hx, hb, hml, hown, hts⟩ := id S
  have hl : lv_has ls 2 [(0, .ref (g 0)), (1, .int (nI (i)))] := hl
  refine lv_iconst (v := nI 1) hx hb dX0_endsOf_0 (by decide) ?_
  refine lv_aload_n hx hb dX0_endsOf_1 rfl (lv_at hl 0 rfl) ?_
  refine xg1 hx hb hts hown hK hP dX0_endsOf_2 ?_
  refine lv_iload_n hx hb dX0_endsOf_5 rfl (lv_at hl 1 rfl) ?_
  refine xl1 hx hb hK hP (by omega) dX0_endsOf_6 ?_
  refine sr_shl hx hb (by have := (hr i hi).1; omega) dX0_endsOf_7 ?_
  refine lv_iconst (v := nI 1) hx hb dX0_endsOf_8 (by decide) ?_
  refine lv_aload_n hx hb dX0_endsOf_9 rfl (lv_at hl 0 rfl) ?_
  refine xg2 hx hb hts hown hK hP dX0_endsOf_10 ?_
  refine lv_iload_n hx hb dX0_endsOf_13 rfl (lv_at hl 1 rfl) ?_
  refine xl2 hx hb hK hP (by omega) dX0_endsOf_14 ?_
  refine sr_shl hx hb (by have := (hr i hi).2.1; omega) dX0_endsOf_15 ?_
  refine sr_or hx hb dX0_endsOf_16 ?_
  exact hret _ _ _ dX0_endsOf_17 rfl
theorem hdX0_endsOf : yX0_endsOf.cls = RX0 ∧ yX0_endsOf.cls ≠ "java/lang/invoke/MethodHandle" ∧ yX0_endsOf.cls ≠ "java/lang/invoke/VarHandle" ∧ (parseMethodDescriptor yX0_endsOf.desc).map (fun d => d.parameters.length) = some 1 := by decide +kernel
set_option maxHeartbeats 4000000 in
set_option maxRecDepth 100000 in
theorem cX_stillLeft (l : Launch) (D : va_G) (g : Nat → Nat) (k : Nat → ClassId) (p : Nat) (a b ln w pg lf : Nat → Nat)  (hlf : ∀ s, s < 10 → lf s ≤ 2) : Met l yX0_stillLeft (ws_ yX0_stillLeft cX0_stillLeft 3 (some .int)) (sw_rm 0) (va_Pc [.ref (g 0)] (fun U => sw_XP D g k p a b ln w pg lf U.heap ∧ sw_XK D k U)) (vp_Si (fun r => r = nI (sw_rs lf 10))) 0 0 (fun _ => False) := by
  refine so_i (own := RX0) (by decide) rfl (Nat.le_of_ble_eq_true rfl) (fun P e R s m args bl mt c Q ls S hR hL hB hl hret => ?_)
  obtain ⟨hP, hK⟩ := hB
  obtain ⟨hx, hb, hml, hown, hts⟩ := id S
  have hl : lv_has ls 3 [(0, .ref (g 0))] := hl
  refine lv_iconst (v := nI 0) hx hb dX0_stillLeft_0 (by decide) ?_
  refine lv_istore_n (lv' := [(1, .int (nI (0))), (0, .ref (g 0))]) hx hb dX0_stillLeft_1 rfl hl (by decide) rfl (fun ls hl => ?_)
  refine lv_iconst (v := nI 0) hx hb dX0_stillLeft_2 (by decide) ?_
  refine lv_istore_n (lv' := [(2, .int (nI (0))), (1, .int (nI (0))), (0, .ref (g 0))]) hx hb dX0_stillLeft_3 rfl hl (by decide) rfl (fun ls hl => ?_)
  have L4 : ∀ (n i : Nat) (x1 : Nat), i ≤ 10 → 11 ≤ i + n → (x1 = sw_rs lf i) → ∀ (ls : Array Slot), lv_has ls 3 [(0, .ref (g 0)), (1, .int (nI (x1))), (2, .int (nI (i)))] → W P l e R s m args bl mt c s.heap [] 0 0 Q (F0 m 4 ls []) := by
    intro n
    induction n with
    | zero => intro i x1 h1 h2; exact absurd h2 (by omega)
    | succ n ih4 =>
      intro i x1 hi4 hn4 hc ls hl
      refine lv_iload_n hx hb dX0_stillLeft_4 rfl (lv_at hl 2 rfl) ?_
      refine lv_bipush (v := nI 10) hx hb dX0_stillLeft_5 (by decide) ?_
      refine sr_ge (tgt := 31) hx hb (by omega) (by omega) dX0_stillLeft_7 (by decide) (fun c7 => ?_) (fun c7 => ?_)
      · refine lv_iload_n hx hb dX0_stillLeft_31 rfl (lv_at hl 1 rfl) ?_
        exact hret _ _ _ dX0_stillLeft_32 (by rw [hc, show i = 10 by omega])
      · refine lv_aload_n hx hb dX0_stillLeft_10 rfl (lv_at hl 0 rfl) ?_
        refine xg6 hx hb hts hown hK hP dX0_stillLeft_11 ?_
        refine lv_iload_n hx hb dX0_stillLeft_14 rfl (lv_at hl 2 rfl) ?_
        refine xl6 hx hb hK hP (by omega) dX0_stillLeft_15 ?_
        refine sr_le0 (tgt := 25) hx hb (by have := hlf i (by omega); omega) dX0_stillLeft_16 (by decide) (fun c16 => ?_) (fun c16 => ?_)
        · refine lv_iinc (v := nI (i + 1)) (lv' := [(2, .int (nI (i + 1))), (0, .ref (g 0)), (1, .int (nI (x1)))]) hx hb dX0_stillLeft_25 hl (k := 2) rfl (sn_inc (i)) (by decide) rfl (fun ls hl => ?_)
          refine lv_goto (tgt := 4) hx hb dX0_stillLeft_28 (by decide) ?_
          exact ih4 (i + 1) (x1) (by omega) (by omega) (by rw [sw_rs_s0 c16, hc]) ls (lv_sub hl [1, 2, 0] rfl)
        · refine lv_iload_n hx hb dX0_stillLeft_19 rfl (lv_at hl 1 rfl) ?_
          refine lv_iconst (v := nI 1) hx hb dX0_stillLeft_20 (by decide) ?_
          refine lv_iload_n hx hb dX0_stillLeft_21 rfl (lv_at hl 2 rfl) ?_
          refine sr_shl hx hb (by omega) dX0_stillLeft_22 ?_
          refine sr_or hx hb dX0_stillLeft_23 ?_
          refine lv_istore_n (lv' := [(1, .int (nI ((x1) ||| (2 ^ (i))))), (0, .ref (g 0)), (2, .int (nI (i)))]) hx hb dX0_stillLeft_24 rfl hl (by decide) rfl (fun ls hl => ?_)
          refine lv_iinc (v := nI (i + 1)) (lv' := [(2, .int (nI (i + 1))), (1, .int (nI ((x1) ||| (2 ^ (i))))), (0, .ref (g 0))]) hx hb dX0_stillLeft_25 hl (k := 2) rfl (sn_inc (i)) (by decide) rfl (fun ls hl => ?_)
          refine lv_goto (tgt := 4) hx hb dX0_stillLeft_28 (by decide) ?_
          exact ih4 (i + 1) ((x1) ||| (2 ^ (i))) (by omega) (by omega) (by rw [sw_rs_s1 c16, hc]) ls (lv_sub hl [2, 1, 0] rfl)
  exact L4 (11) (0) (0) (by omega) (by omega) rfl ls (lv_sub hl [2, 1, 0] rfl)
theorem hdX0_stillLeft : yX0_stillLeft.cls = RX0 ∧ yX0_stillLeft.cls ≠ "java/lang/invoke/MethodHandle" ∧ yX0_stillLeft.cls ≠ "java/lang/invoke/VarHandle" ∧ (parseMethodDescriptor yX0_stillLeft.desc).map (fun d => d.parameters.length) = some 0 := by decide +kernel
set_option maxHeartbeats 4000000 in
set_option maxRecDepth 100000 in
theorem cX_odd (l : Launch) (D : va_G) (g : Nat → Nat) (k : Nat → ClassId) (p : Nat) (a b ln w pg lf : Nat → Nat)  (hp : p < 1024) (hr : sw_rng a b ln) (hne : ∀ s, s < 10 → p.testBit s = true → a s ≠ b s) : Met l yX0_odd (ws_ yX0_odd cX0_odd 3 (some .int)) (sw_rm 1) (va_Pc [.ref (g 0)] (fun U => sw_XP D g k p a b ln w pg lf U.heap ∧ sw_XK D k U)) (vp_Si (fun r => r = nI (sw_od a b p 10))) 0 0 (fun _ => False) := by
  refine so_i (own := RX0) (by decide) rfl (Nat.le_of_ble_eq_true rfl) (fun P e R s m args bl mt c Q ls S hR hL hB hl hret => ?_)
  obtain ⟨hP, hK⟩ := hB
  obtain ⟨hx, hb, hml, hown, hts⟩ := id S
  have hl : lv_has ls 3 [(0, .ref (g 0))] := hl
  refine lv_iconst (v := nI 0) hx hb dX0_odd_0 (by decide) ?_
  refine lv_istore_n (lv' := [(1, .int (nI (0))), (0, .ref (g 0))]) hx hb dX0_odd_1 rfl hl (by decide) rfl (fun ls hl => ?_)
  refine lv_iconst (v := nI 0) hx hb dX0_odd_2 (by decide) ?_
  refine lv_istore_n (lv' := [(2, .int (nI (0))), (1, .int (nI (0))), (0, .ref (g 0))]) hx hb dX0_odd_3 rfl hl (by decide) rfl (fun ls hl => ?_)
  have L4 : ∀ (n i : Nat) (x1 : Nat), i ≤ 10 → 11 ≤ i + n → (x1 = sw_od a b p i) → ∀ (ls : Array Slot), lv_has ls 3 [(0, .ref (g 0)), (1, .int (nI (x1))), (2, .int (nI (i)))] → W P l e R s m args bl mt c s.heap [] 0 0 Q (F0 m 4 ls []) := by
    intro n
    induction n with
    | zero => intro i x1 h1 h2; exact absurd h2 (by omega)
    | succ n ih4 =>
      intro i x1 hi4 hn4 hc ls hl
      refine lv_iload_n hx hb dX0_odd_4 rfl (lv_at hl 2 rfl) ?_
      refine lv_bipush (v := nI 10) hx hb dX0_odd_5 (by decide) ?_
      refine sr_ge (tgt := 32) hx hb (by omega) (by omega) dX0_odd_7 (by decide) (fun c7 => ?_) (fun c7 => ?_)
      · refine lv_iload_n hx hb dX0_odd_32 rfl (lv_at hl 1 rfl) ?_
        exact hret _ _ _ dX0_odd_33 (by rw [hc, show i = 10 by omega])
      · refine lv_aload_n hx hb dX0_odd_10 rfl (lv_at hl 0 rfl) ?_
        refine lv_iload_n hx hb dX0_odd_11 rfl (lv_at hl 2 rfl) ?_
        refine xc_ro (As := [.int (nI (i))]) (n := 1) S (cX_has l D g k p a b ln w pg lf (nI i) hp) (lw_V q62 q64 qs0 q21 q65) hdX0_has (by omega) (by omega) (by decide) (Nat.zero_le _) (Nat.zero_le _) hK hP rfl hl.1 (Nat.le_of_ble_eq_true rfl) dX0_odd_12 rfl (fun r hq => ?_)
        rw [sn_has_nI p (by omega)] at hq
        subst hq
        refine sr_bf (tgt := 26) hx hb dX0_odd_15 (by decide) (fun c15 => ?_) (fun c15 => ?_)
        · refine lv_iinc (v := nI (i + 1)) (lv' := [(2, .int (nI (i + 1))), (0, .ref (g 0)), (1, .int (nI (x1)))]) hx hb dX0_odd_26 hl (k := 2) rfl (sn_inc (i)) (by decide) rfl (fun ls hl => ?_)
          refine lv_goto (tgt := 4) hx hb dX0_odd_29 (by decide) ?_
          exact ih4 (i + 1) (x1) (by omega) (by omega) (by rw [sw_od_s0 c15, hc]) ls (lv_sub hl [1, 2, 0] rfl)
        · refine lv_iload_n hx hb dX0_odd_18 rfl (lv_at hl 1 rfl) ?_
          refine lv_aload_n hx hb dX0_odd_19 rfl (lv_at hl 0 rfl) ?_
          refine lv_iload_n hx hb dX0_odd_20 rfl (lv_at hl 2 rfl) ?_
          refine xc_ro (As := [.int (nI (i))]) (n := 1) S (cX_endsOf l D g k p a b ln w pg lf hr (by omega)) (lw_V q82 q84 qs1 q21 q85) hdX0_endsOf (by omega) (by omega) (by decide) (Nat.zero_le _) (Nat.zero_le _) hK hP rfl hl.1 (Nat.le_of_ble_eq_true rfl) dX0_odd_21 rfl (fun r hq => ?_)
          subst hq
          refine sr_xor hx hb dX0_odd_24 ?_
          refine lv_istore_n (lv' := [(1, .int (nI ((x1) ^^^ (sw_E a b i)))), (0, .ref (g 0)), (2, .int (nI (i)))]) hx hb dX0_odd_25 rfl hl (by decide) rfl (fun ls hl => ?_)
          refine lv_iinc (v := nI (i + 1)) (lv' := [(2, .int (nI (i + 1))), (1, .int (nI ((x1) ^^^ (sw_E a b i)))), (0, .ref (g 0))]) hx hb dX0_odd_26 hl (k := 2) rfl (sn_inc (i)) (by decide) rfl (fun ls hl => ?_)
          refine lv_goto (tgt := 4) hx hb dX0_odd_29 (by decide) ?_
          exact ih4 (i + 1) ((x1) ^^^ (sw_E a b i)) (by omega) (by omega) (by rw [sw_od_s1 c15, hc, sw_E_x (hne i (by omega) c15)]) ls (lv_sub hl [2, 1, 0] rfl)
  exact L4 (11) (0) (0) (by omega) (by omega) rfl ls (lv_sub hl [2, 1, 0] rfl)
theorem hdX0_odd : yX0_odd.cls = RX0 ∧ yX0_odd.cls ≠ "java/lang/invoke/MethodHandle" ∧ yX0_odd.cls ≠ "java/lang/invoke/VarHandle" ∧ (parseMethodDescriptor yX0_odd.desc).map (fun d => d.parameters.length) = some 0 := by decide +kernel
set_option maxHeartbeats 4000000 in
set_option maxRecDepth 100000 in
theorem cX_touched (l : Launch) (D : va_G) (g : Nat → Nat) (k : Nat → ClassId) (p : Nat) (a b ln w pg lf : Nat → Nat) {X : Nat} (hr : sw_rng a b ln) (hX : X < 1024) : Met l yX0_touched (ws_ yX0_touched cX0_touched 4 (some .int)) (sw_rm 1) (va_Pc [.ref (g 0), .int (nI (X))] (fun U => sw_XP D g k p a b ln w pg lf U.heap ∧ sw_XK D k U)) (vp_Si (fun r => r = nI (sw_tc a b X 10))) 0 0 (fun _ => False) := by
  refine so_i (own := RX0) (by decide) rfl (Nat.le_of_ble_eq_true rfl) (fun P e R s m args bl mt c Q ls S hR hL hB hl hret => ?_)
  obtain ⟨hP, hK⟩ := hB
  obtain ⟨hx, hb, hml, hown, hts⟩ := id S
  have hl : lv_has ls 4 [(0, .ref (g 0)), (1, .int (nI (X)))] := hl
  refine lv_iconst (v := nI 0) hx hb dX0_touched_0 (by decide) ?_
  refine lv_istore_n (lv' := [(2, .int (nI (0))), (0, .ref (g 0)), (1, .int (nI (X)))]) hx hb dX0_touched_1 rfl hl (by decide) rfl (fun ls hl => ?_)
  refine lv_iconst (v := nI 0) hx hb dX0_touched_2 (by decide) ?_
  refine lv_istore_n (lv' := [(3, .int (nI (0))), (2, .int (nI (0))), (0, .ref (g 0)), (1, .int (nI (X)))]) hx hb dX0_touched_3 rfl hl (by decide) rfl (fun ls hl => ?_)
  have L4 : ∀ (n i : Nat) (x1 : Nat), i ≤ 10 → 11 ≤ i + n → (x1 = sw_tc a b X i) → ∀ (ls : Array Slot), lv_has ls 4 [(0, .ref (g 0)), (1, .int (nI (X))), (2, .int (nI (x1))), (3, .int (nI (i)))] → W P l e R s m args bl mt c s.heap [] 0 0 Q (F0 m 4 ls []) := by
    intro n
    induction n with
    | zero => intro i x1 h1 h2; exact absurd h2 (by omega)
    | succ n ih4 =>
      intro i x1 hi4 hn4 hc ls hl
      refine lv_iload_n hx hb dX0_touched_4 rfl (lv_at hl 3 rfl) ?_
      refine lv_bipush (v := nI 10) hx hb dX0_touched_5 (by decide) ?_
      refine sr_ge (tgt := 32) hx hb (by omega) (by omega) dX0_touched_7 (by decide) (fun c7 => ?_) (fun c7 => ?_)
      · refine lv_iload_n hx hb dX0_touched_32 rfl (lv_at hl 2 rfl) ?_
        exact hret _ _ _ dX0_touched_33 (by rw [hc, show i = 10 by omega])
      · refine lv_iload_n hx hb dX0_touched_10 rfl (lv_at hl 1 rfl) ?_
        refine lv_iload_n hx hb dX0_touched_11 rfl (lv_at hl 3 rfl) ?_
        refine sr_bit hx hb (by omega) (by omega) dX0_touched_12 dX0_touched_13 dX0_touched_14 ?_
        refine sr_bf (tgt := 26) hx hb dX0_touched_15 (by decide) (fun c15 => ?_) (fun c15 => ?_)
        · refine lv_iinc (v := nI (i + 1)) (lv' := [(3, .int (nI (i + 1))), (0, .ref (g 0)), (1, .int (nI (X))), (2, .int (nI (x1)))]) hx hb dX0_touched_26 hl (k := 3) rfl (sn_inc (i)) (by decide) rfl (fun ls hl => ?_)
          refine lv_goto (tgt := 4) hx hb dX0_touched_29 (by decide) ?_
          exact ih4 (i + 1) (x1) (by omega) (by omega) (by rw [sw_tc_s0 c15, hc]) ls (lv_sub hl [1, 2, 3, 0] rfl)
        · refine lv_iload_n hx hb dX0_touched_18 rfl (lv_at hl 2 rfl) ?_
          refine lv_aload_n hx hb dX0_touched_19 rfl (lv_at hl 0 rfl) ?_
          refine lv_iload_n hx hb dX0_touched_20 rfl (lv_at hl 3 rfl) ?_
          refine xc_ro (As := [.int (nI (i))]) (n := 1) S (cX_endsOf l D g k p a b ln w pg lf hr (by omega)) (lw_V q82 q84 qs1 q21 q85) hdX0_endsOf (by omega) (by omega) (by decide) (Nat.zero_le _) (Nat.zero_le _) hK hP rfl hl.1 (Nat.le_of_ble_eq_true rfl) dX0_touched_21 rfl (fun r hq => ?_)
          subst hq
          refine sr_or hx hb dX0_touched_24 ?_
          refine lv_istore_n (lv' := [(2, .int (nI ((x1) ||| (sw_E a b i)))), (0, .ref (g 0)), (1, .int (nI (X))), (3, .int (nI (i)))]) hx hb dX0_touched_25 rfl hl (by decide) rfl (fun ls hl => ?_)
          refine lv_iinc (v := nI (i + 1)) (lv' := [(3, .int (nI (i + 1))), (2, .int (nI ((x1) ||| (sw_E a b i)))), (0, .ref (g 0)), (1, .int (nI (X)))]) hx hb dX0_touched_26 hl (k := 3) rfl (sn_inc (i)) (by decide) rfl (fun ls hl => ?_)
          refine lv_goto (tgt := 4) hx hb dX0_touched_29 (by decide) ?_
          exact ih4 (i + 1) ((x1) ||| (sw_E a b i)) (by omega) (by omega) (by rw [sw_tc_s1 c15, hc]) ls (lv_sub hl [2, 3, 1, 0] rfl)
  exact L4 (11) (0) (0) (by omega) (by omega) rfl ls (lv_sub hl [2, 3, 1, 0] rfl)
theorem hdX0_touched : yX0_touched.cls = RX0 ∧ yX0_touched.cls ≠ "java/lang/invoke/MethodHandle" ∧ yX0_touched.cls ≠ "java/lang/invoke/VarHandle" ∧ (parseMethodDescriptor yX0_touched.desc).map (fun d => d.parameters.length) = some 1 := by decide +kernel
set_option maxHeartbeats 4000000 in
set_option maxRecDepth 100000 in
theorem cX_reached (l : Launch) (D : va_G) (g : Nat → Nat) (k : Nat → ClassId) (p : Nat) (a b ln w pg lf : Nat → Nat) {f X : Nat} (hr : sw_rng a b ln) (hX : X < 1024) : Met l yX0_reached (ws_ yX0_reached cX0_reached 6 (some .int)) (sw_rm 1) (va_Pc [.ref (g 0), .int (nI (f)), .int (nI (X))] (fun U => sw_XP D g k p a b ln w pg lf U.heap ∧ sw_XK D k U)) (vp_Si (fun r => r = nI (sw_rc a b X f 6))) 0 0 (fun _ => False) := by
  refine so_i (own := RX0) (by decide) rfl (Nat.le_of_ble_eq_true rfl) (fun P e R s m args bl mt c Q ls S hR hL hB hl hret => ?_)
  obtain ⟨hP, hK⟩ := hB
  obtain ⟨hx, hb, hml, hown, hts⟩ := id S
  have hl : lv_has ls 6 [(0, .ref (g 0)), (1, .int (nI (f))), (2, .int (nI (X)))] := hl
  refine lv_iload_n hx hb dX0_reached_0 rfl (lv_at hl 1 rfl) ?_
  refine lv_istore_n (lv' := [(3, .int (nI (f))), (0, .ref (g 0)), (1, .int (nI (f))), (2, .int (nI (X)))]) hx hb dX0_reached_1 rfl hl (by decide) rfl (fun ls hl => ?_)
  refine lv_iconst (v := nI 0) hx hb dX0_reached_2 (by decide) ?_
  refine lv_istore (lv' := [(4, .int (nI (0))), (3, .int (nI (f))), (0, .ref (g 0)), (1, .int (nI (f))), (2, .int (nI (X)))]) hx hb dX0_reached_3 hl (by decide) rfl (fun ls hl => ?_)
  have L5 : ∀ (n i : Nat) (x1 : Nat), i ≤ 6 → 7 ≤ i + n → (x1 = sw_rc a b X f i) → ∀ (ls : Array Slot), lv_has ls 6 [(0, .ref (g 0)), (1, .int (nI (f))), (2, .int (nI (X))), (3, .int (nI (x1))), (4, .int (nI (i)))] → W P l e R s m args bl mt c s.heap [] 0 0 Q (F0 m 5 ls []) := by
    intro n
    induction n with
    | zero => intro i x1 h1 h2; exact absurd h2 (by omega)
    | succ n ih5 =>
      intro i x1 hi5 hn5 hc ls hl
      refine lv_iload hx hb dX0_reached_5 (lv_at hl 4 rfl) ?_
      refine lv_bipush (v := nI 6) hx hb dX0_reached_7 (by decide) ?_
      refine sr_ge (tgt := 63) hx hb (by omega) (by omega) dX0_reached_9 (by decide) (fun c9 => ?_) (fun c9 => ?_)
      · refine lv_iload_n hx hb dX0_reached_63 rfl (lv_at hl 3 rfl) ?_
        exact hret _ _ _ dX0_reached_64 (by rw [hc, show i = 6 by omega])
      · refine lv_iconst (v := nI 0) hx hb dX0_reached_12 (by decide) ?_
        refine lv_istore (lv' := [(5, .int (nI (0))), (0, .ref (g 0)), (1, .int (nI (f))), (2, .int (nI (X))), (3, .int (nI (x1))), (4, .int (nI (i)))]) hx hb dX0_reached_13 hl (by decide) rfl (fun ls hl => ?_)
        have L15 : ∀ (n j : Nat) (x2 : Nat), j ≤ 10 → 11 ≤ j + n → (x2 = sw_ps a b X j x1) → ∀ (ls : Array Slot), lv_has ls 6 [(0, .ref (g 0)), (1, .int (nI (f))), (2, .int (nI (X))), (3, .int (nI (x2))), (4, .int (nI (i))), (5, .int (nI (j)))] → W P l e R s m args bl mt c s.heap [] 0 0 Q (F0 m 15 ls []) := by
          intro n
          induction n with
          | zero => intro j x2 h1 h2; exact absurd h2 (by omega)
          | succ n ih15 =>
            intro j x2 hi15 hn15 hc2 ls hl
            refine lv_iload hx hb dX0_reached_15 (lv_at hl 5 rfl) ?_
            refine lv_bipush (v := nI 10) hx hb dX0_reached_17 (by decide) ?_
            refine sr_ge (tgt := 57) hx hb (by omega) (by omega) dX0_reached_19 (by decide) (fun c19 => ?_) (fun c19 => ?_)
            · refine lv_iinc (v := nI (i + 1)) (lv' := [(4, .int (nI (i + 1))), (0, .ref (g 0)), (1, .int (nI (f))), (2, .int (nI (X))), (3, .int (nI (x2))), (5, .int (nI (j)))]) hx hb dX0_reached_57 hl (k := 4) rfl (sn_inc (i)) (by decide) rfl (fun ls hl => ?_)
              refine lv_goto (tgt := 5) hx hb dX0_reached_60 (by decide) ?_
              exact ih5 (i + 1) (x2) (by omega) (by omega) (by show x2 = sw_ps a b X 10 (sw_rc a b X f i); rw [← hc, hc2, show j = 10 by omega]) ls (lv_sub hl [1, 2, 3, 4, 0] rfl)
            · refine lv_iload_n hx hb dX0_reached_22 rfl (lv_at hl 2 rfl) ?_
              refine lv_iload hx hb dX0_reached_23 (lv_at hl 5 rfl) ?_
              refine sr_bit hx hb (by omega) (by omega) dX0_reached_25 dX0_reached_26 dX0_reached_27 ?_
              refine sr_bf (tgt := 51) hx hb dX0_reached_28 (by decide) (fun c28 => ?_) (fun c28 => ?_)
              · refine lv_iinc (v := nI (j + 1)) (lv' := [(5, .int (nI (j + 1))), (0, .ref (g 0)), (1, .int (nI (f))), (2, .int (nI (X))), (3, .int (nI (x2))), (4, .int (nI (i)))]) hx hb dX0_reached_51 hl (k := 5) rfl (sn_inc (j)) (by decide) rfl (fun ls hl => ?_)
                refine lv_goto (tgt := 15) hx hb dX0_reached_54 (by decide) ?_
                exact ih15 (j + 1) (x2) (by omega) (by omega) (by show x2 = sw_st (sw_E a b j) (sw_ps a b X j x1) (X.testBit j); rw [← hc2, sw_st_f c28]) ls (lv_sub hl [1, 2, 3, 4, 5, 0] rfl)
              · refine lv_aload_n hx hb dX0_reached_31 rfl (lv_at hl 0 rfl) ?_
                refine lv_iload hx hb dX0_reached_32 (lv_at hl 5 rfl) ?_
                refine xc_ro (As := [.int (nI (j))]) (n := 1) S (cX_endsOf l D g k p a b ln w pg lf hr (by omega)) (lw_V q82 q84 qs1 q21 q85) hdX0_endsOf (by omega) (by omega) (by decide) (Nat.zero_le _) (Nat.zero_le _) hK hP rfl hl.1 (Nat.le_of_ble_eq_true rfl) dX0_reached_34 rfl (fun r hq => ?_)
                subst hq
                refine lv_iload_n hx hb dX0_reached_37 rfl (lv_at hl 3 rfl) ?_
                refine sr_and hx hb dX0_reached_38 ?_
                refine sr_eq0 (tgt := 51) hx hb (sw_and_lt (by have := sw_E_lt hr (show j < 10 by omega); omega)) dX0_reached_39 (by decide) (fun c39 => ?_) (fun c39 => ?_)
                · refine lv_iinc (v := nI (j + 1)) (lv' := [(5, .int (nI (j + 1))), (0, .ref (g 0)), (1, .int (nI (f))), (2, .int (nI (X))), (3, .int (nI (x2))), (4, .int (nI (i)))]) hx hb dX0_reached_51 hl (k := 5) rfl (sn_inc (j)) (by decide) rfl (fun ls hl => ?_)
                  refine lv_goto (tgt := 15) hx hb dX0_reached_54 (by decide) ?_
                  exact ih15 (j + 1) (x2) (by omega) (by omega) (by show x2 = sw_st (sw_E a b j) (sw_ps a b X j x1) (X.testBit j); rw [← hc2, sw_st_0 c39]) ls (lv_sub hl [1, 2, 3, 4, 5, 0] rfl)
                · refine lv_iload_n hx hb dX0_reached_42 rfl (lv_at hl 3 rfl) ?_
                  refine lv_aload_n hx hb dX0_reached_43 rfl (lv_at hl 0 rfl) ?_
                  refine lv_iload hx hb dX0_reached_44 (lv_at hl 5 rfl) ?_
                  refine xc_ro (As := [.int (nI (j))]) (n := 1) S (cX_endsOf l D g k p a b ln w pg lf hr (by omega)) (lw_V q82 q84 qs1 q21 q85) hdX0_endsOf (by omega) (by omega) (by decide) (Nat.zero_le _) (Nat.zero_le _) hK hP rfl hl.1 (Nat.le_of_ble_eq_true rfl) dX0_reached_46 rfl (fun r hq => ?_)
                  subst hq
                  refine sr_or hx hb dX0_reached_49 ?_
                  refine lv_istore_n (lv' := [(3, .int (nI ((x2) ||| (sw_E a b j)))), (0, .ref (g 0)), (1, .int (nI (f))), (2, .int (nI (X))), (4, .int (nI (i))), (5, .int (nI (j)))]) hx hb dX0_reached_50 rfl hl (by decide) rfl (fun ls hl => ?_)
                  refine lv_iinc (v := nI (j + 1)) (lv' := [(5, .int (nI (j + 1))), (3, .int (nI ((x2) ||| (sw_E a b j)))), (0, .ref (g 0)), (1, .int (nI (f))), (2, .int (nI (X))), (4, .int (nI (i)))]) hx hb dX0_reached_51 hl (k := 5) rfl (sn_inc (j)) (by decide) rfl (fun ls hl => ?_)
                  refine lv_goto (tgt := 15) hx hb dX0_reached_54 (by decide) ?_
                  exact ih15 (j + 1) ((x2) ||| (sw_E a b j)) (by omega) (by omega) (by show x2 ||| sw_E a b j = sw_st (sw_E a b j) (sw_ps a b X j x1) (X.testBit j); rw [← hc2, sw_st_1 c28 c39]) ls (lv_sub hl [2, 3, 4, 1, 5, 0] rfl)
        exact L15 (11) (0) (x1) (by omega) (by omega) rfl ls (lv_sub hl [1, 2, 3, 4, 5, 0] rfl)
  exact L5 (7) (0) (f) (by omega) (by omega) rfl ls (lv_sub hl [2, 3, 4, 1, 0] rfl)
theorem hdX0_reached : yX0_reached.cls = RX0 ∧ yX0_reached.cls ≠ "java/lang/invoke/MethodHandle" ∧ yX0_reached.cls ≠ "java/lang/invoke/VarHandle" ∧ (parseMethodDescriptor yX0_reached.desc).map (fun d => d.parameters.length) = some 2 := by decide +kernel
set_option maxHeartbeats 4000000 in
set_option maxRecDepth 100000 in
theorem cX_connected (l : Launch) (D : va_G) (g : Nat → Nat) (k : Nat → ClassId) (p : Nat) (a b ln w pg lf : Nat → Nat)  (hp : p < 1024) (hr : sw_rng a b ln) : Met l yX0_connected (ws_ yX0_connected cX0_connected 3 (some .boolean)) (sw_rm 2) (va_Pc [.ref (g 0)] (fun U => sw_XP D g k p a b ln w pg lf U.heap ∧ sw_XK D k U)) (vp_Si (fun r => ∃ bb : Bool, r = nI bb.toNat ∧ (bb = true ↔ sw_con a b p))) 0 0 (fun _ => False) := by
  refine so_z (own := RX0) (by decide) rfl (Nat.le_of_ble_eq_true rfl) (fun v h => ⟨h.choose, h.choose_spec.1⟩) (fun P e R s m args bl mt c Q ls S hR hL hB hl hret => ?_)
  obtain ⟨hP, hK⟩ := hB
  obtain ⟨hx, hb, hml, hown, hts⟩ := id S
  have hl : lv_has ls 3 [(0, .ref (g 0))] := hl
  have htc := sw_tc_lt hr p 10 (Nat.le_refl _)
  refine lv_aload_n hx hb dX0_connected_0 rfl (lv_at hl 0 rfl) ?_
  refine lv_aload_n hx hb dX0_connected_1 rfl (lv_at hl 0 rfl) ?_
  refine xg0 hx hb hts hown hK hP dX0_connected_2 ?_
  refine xc_ro (As := [.int (nI (p))]) (n := 1) S (cX_touched l D g k p a b ln w pg lf hr (by omega)) (lw_V q90 q92 qs2 q21 q93) hdX0_touched (by omega) (by omega) (by decide) (Nat.zero_le _) (Nat.zero_le _) hK hP rfl hl.1 (Nat.le_of_ble_eq_true rfl) dX0_connected_5 rfl (fun r hq => ?_)
  subst hq
  refine lv_istore_n (lv' := [(1, .int (nI (sw_tc a b p 10))), (0, .ref (g 0))]) hx hb dX0_connected_8 rfl hl (by decide) rfl (fun ls hl => ?_)
  refine lv_iload_n hx hb dX0_connected_9 rfl (lv_at hl 0 rfl) ?_
  refine lv_iload_n hx hb dX0_connected_10 rfl (lv_at hl 0 rfl) ?_
  refine lv_ineg hx hb dX0_connected_11 ?_
  refine lv_iand hx hb dX0_connected_12 ?_
  rw [sn_neg _ htc]
  refine lv_istore_n (lv' := [(2, .int (nI (sw_lo (sw_tc a b p 10)))), (1, .int (nI (sw_tc a b p 10))), (0, .ref (g 0))]) hx hb dX0_connected_13 rfl hl (by decide) rfl (fun ls hl => ?_)
  refine lv_iload_n hx hb dX0_connected_14 rfl (lv_at hl 1 rfl) ?_
  refine lv_aload_n hx hb dX0_connected_15 rfl (lv_at hl 2 rfl) ?_
  refine lv_iload_n hx hb dX0_connected_16 rfl (lv_at hl 0 rfl) ?_
  refine lv_aload_n hx hb dX0_connected_17 rfl (lv_at hl 2 rfl) ?_
  refine xg0 hx hb hts hown hK hP dX0_connected_18 ?_
  refine xc_ro (As := [.int (nI (sw_lo (sw_tc a b p 10))), .int (nI (p))]) (n := 2) S (cX_reached l D g k p a b ln w pg lf hr (by omega)) (lw_V q94 q96 qs3 q21 q97) hdX0_reached (by omega) (by omega) (by decide) (Nat.zero_le _) (Nat.zero_le _) hK hP rfl hl.1 (Nat.le_of_ble_eq_true rfl) dX0_connected_21 rfl (fun r hq => ?_)
  subst hq
  refine sr_not hx hb dX0_connected_24 dX0_connected_25 dX0_connected_26 ?_
  refine sr_ne0 (tgt := 34) hx hb (sw_an_lt (by omega)) dX0_connected_27 (by decide) (fun c27 => ?_) (fun c27 => ?_)
  · refine lv_iconst (v := nI 0) hx hb dX0_connected_34 (by decide) ?_
    exact hret _ _ _ dX0_connected_35 ⟨false, rfl, fun q => absurd q (by decide), fun q => absurd ((sw_con_x hr p).mpr q) c27⟩
  · refine lv_iconst (v := nI 1) hx hb dX0_connected_30 (by decide) ?_
    refine lv_goto (tgt := 35) hx hb dX0_connected_31 (by decide) ?_
    exact hret _ _ _ dX0_connected_35 ⟨true, rfl, fun _ => (sw_con_x hr p).mp c27, fun _ => rfl⟩
theorem hdX0_connected : yX0_connected.cls = RX0 ∧ yX0_connected.cls ≠ "java/lang/invoke/MethodHandle" ∧ yX0_connected.cls ≠ "java/lang/invoke/VarHandle" ∧ (parseMethodDescriptor yX0_connected.desc).map (fun d => d.parameters.length) = some 0 := by decide +kernel
end
section
/-! CONTRACTS of StreetWalker: ways and pairings -/
set_option maxHeartbeats 4000000 in
set_option maxRecDepth 100000 in
theorem cX_shorten (l : Launch) (D : va_G) (g : Nat → Nat) (k : Nat → ClassId) (p : Nat) (a b ln w pg lf : Nat → Nat) {x y len : Nat} (hg : sw_XD g) (hx6 : x < 6) (hy6 : y < 6) (hlen : len ≤ 20) (hwb : w (x * 6 + y) ≤ 100000) : Met l yX0_shorten (ws_ yX0_shorten cX0_shorten 5 (none)) (sw_rm 0) (va_Pc [.ref (g 0), .int (nI (x)), .int (nI (y)), .int (nI (len))] (fun U => sw_XP D g k p a b ln w pg lf U.heap ∧ sw_XK D k U)) (va_Qv (fun (u : Nat → Nat) => u = sw_sh w x y len) (fun (u : Nat → Nat) t => (fun (u : Nat → Nat) (H : Heap) => sw_XP D g k p a b ln u pg lf H) u t.heap) (sw_XA g)) 0 0 (sw_XA g) := by
  refine so_wv (own := RX0) (Bw := fun (u : Nat → Nat) (H : Heap) => sw_XP D g k p a b ln u pg lf H) (by decide) rfl (Nat.le_of_ble_eq_true rfl) (fun P e R s m args bl mt c Q ls S hR hL hB hl hret => ?_)
  obtain ⟨hP, hK⟩ := hB
  obtain ⟨hx, hb, hml, hown, hts⟩ := id S
  have hl : lv_has ls 5 [(0, .ref (g 0)), (1, .int (nI (x))), (2, .int (nI (y))), (3, .int (nI (len)))] := hl
  have hS : va_S (sw_XA g) s.heap s.heap [] := va_S.rf
  obtain ⟨H, hH⟩ : ∃ H, H = s.heap := ⟨_, rfl⟩
  obtain ⟨locs, hlo⟩ : ∃ L : List Loc, L = [] := ⟨_, rfl⟩
  have hP : sw_XP D g k p a b ln w pg lf H := by rw [hH]; exact hP
  have hS : va_S (sw_XA g) s.heap H locs := by rw [hH, hlo]; exact hS
  have hgo : W P l e R s m args bl mt c H locs 0 0 Q (F0 m 0 ls []) := by
    refine lv_iload_n hx hb dX0_shorten_0 rfl (lv_at hl 1 rfl) ?_
    refine lv_bipush (v := nI 6) hx hb dX0_shorten_1 (by decide) ?_
    refine sr_mul hx hb dX0_shorten_3 ?_
    refine lv_iload_n hx hb dX0_shorten_4 rfl (lv_at hl 2 rfl) ?_
    refine sr_add hx hb dX0_shorten_5 ?_
    refine lv_istore (lv' := [(4, .int (nI ((x * 6) + (y)))), (0, .ref (g 0)), (1, .int (nI (x))), (2, .int (nI (y))), (3, .int (nI (len)))]) hx hb dX0_shorten_6 hl (by decide) rfl (fun ls hl => ?_)
    refine lv_iload_n hx hb dX0_shorten_8 rfl (lv_at hl 4 rfl) ?_
    refine lv_aload_n hx hb dX0_shorten_9 rfl (lv_at hl 1 rfl) ?_
    refine xg4 hx hb hts hown hK hP dX0_shorten_10 ?_
    refine lv_iload hx hb dX0_shorten_13 (lv_at hl 0 rfl) ?_
    refine xl4 hx hb hK hP (by omega) dX0_shorten_15 ?_
    refine sr_ge (tgt := 27) hx hb (by omega) (by omega) dX0_shorten_16 (by decide) (fun c16 => ?_) (fun c16 => ?_)
    · exact hret _ _ w _ _ dX0_shorten_27 (by unfold sw_sh; rw [if_neg (by omega)]) hP hS
    · refine lv_aload_n hx hb dX0_shorten_19 rfl (lv_at hl 1 rfl) ?_
      refine xg4 hx hb hts hown hK hP dX0_shorten_20 ?_
      refine lv_iload hx hb dX0_shorten_23 (lv_at hl 0 rfl) ?_
      refine lv_iload_n hx hb dX0_shorten_25 rfl (lv_at hl 4 rfl) ?_
      refine xs4 hx hb hK hP hg hS (by omega) dX0_shorten_26 (fun H locs hP hS => ?_)
      exact hret _ _ (va_up w ((x * 6) + (y)) (len)) _ _ dX0_shorten_27 (by unfold sw_sh; rw [if_pos c16]) hP hS
  rw [hH, hlo] at hgo
  exact hgo
theorem hdX0_shorten : yX0_shorten.cls = RX0 ∧ yX0_shorten.cls ≠ "java/lang/invoke/MethodHandle" ∧ yX0_shorten.cls ≠ "java/lang/invoke/VarHandle" ∧ (parseMethodDescriptor yX0_shorten.desc).map (fun d => d.parameters.length) = some 3 := by decide +kernel
set_option maxHeartbeats 4000000 in
set_option maxRecDepth 100000 in
theorem cX_measure (l : Launch) (D : va_G) (g : Nat → Nat) (k : Nat → ClassId) (p : Nat) (a b ln w pg lf : Nat → Nat) {X : Nat} (hg : sw_XD g) (hr : sw_rng a b ln) (hX : X < 1024) : Met l yX0_measure (ws_ yX0_measure cX0_measure 5 (none)) (sw_rm 1) (va_Pc [.ref (g 0), .int (nI (X))] (fun U => sw_XP D g k p a b ln w pg lf U.heap ∧ sw_XK D k U)) (va_Qv (fun (u : Nat → Nat) => sw_wF a b ln X u) (fun (u : Nat → Nat) t => (fun (u : Nat → Nat) (H : Heap) => sw_XP D g k p a b ln u pg lf H) u t.heap) (sw_XA g)) 0 0 (sw_XA g) := by
  refine so_wv (own := RX0) (Bw := fun (u : Nat → Nat) (H : Heap) => sw_XP D g k p a b ln u pg lf H) (by decide) rfl (Nat.le_of_ble_eq_true rfl) (fun P e R s m args bl mt c Q ls S hR hL hB hl hret => ?_)
  obtain ⟨hP, hK⟩ := hB
  obtain ⟨hx, hb, hml, hown, hts⟩ := id S
  have hl : lv_has ls 5 [(0, .ref (g 0)), (1, .int (nI (X)))] := hl
  have hS : va_S (sw_XA g) s.heap s.heap [] := va_S.rf
  obtain ⟨H, hH⟩ : ∃ H, H = s.heap := ⟨_, rfl⟩
  obtain ⟨locs, hlo⟩ : ∃ L : List Loc, L = [] := ⟨_, rfl⟩
  have hP : sw_XP D g k p a b ln w pg lf H := by rw [hH]; exact hP
  have hS : va_S (sw_XA g) s.heap H locs := by rw [hH, hlo]; exact hS
  have hgo : W P l e R s m args bl mt c H locs 0 0 Q (F0 m 0 ls []) := by
    refine lv_iconst (v := nI 0) hx hb dX0_measure_0 (by decide) ?_
    refine lv_istore_n (lv' := [(2, .int (nI (0))), (0, .ref (g 0)), (1, .int (nI (X)))]) hx hb dX0_measure_1 rfl hl (by decide) rfl (fun ls hl => ?_)
    have L2 : ∀ (n i : Nat) (w1 : Nat → Nat), i ≤ 36 → 37 ≤ i + n → (sw_w1 i w1) → ∀ (H : Heap) (locs : List Loc), sw_XP D g k p a b ln w1 pg lf H → va_S (sw_XA g) s.heap H locs → ∀ (ls : Array Slot), lv_has ls 5 [(0, .ref (g 0)), (1, .int (nI (X))), (2, .int (nI (i)))] → W P l e R s m args bl mt c H locs 0 0 Q (F0 m 2 ls []) := by
      intro n
      induction n with
      | zero => intro i w1 h1 h2; exact absurd h2 (by omega)
      | succ n ih2 =>
        intro i w1 hi2 hn2 h1 H locs hP hS ls hl
        refine lv_iload_n hx hb dX0_measure_2 rfl (lv_at hl 2 rfl) ?_
        refine lv_bipush (v := nI 36) hx hb dX0_measure_3 (by decide) ?_
        refine sr_ge (tgt := 37) hx hb (by omega) (by omega) dX0_measure_5 (by decide) (fun c5 => ?_) (fun c5 => ?_)
        · have hI := sw_w1_e a b ln X (ek_v (P := fun z => sw_w1 z w1) (show 36 = i by omega) h1)
          refine lv_iconst (v := nI 0) hx hb dX0_measure_37 (by decide) ?_
          refine lv_istore_n (lv' := [(2, .int (nI (0))), (0, .ref (g 0)), (1, .int (nI (X)))]) hx hb dX0_measure_38 rfl hl (by decide) rfl (fun ls hl => ?_)
          have L39 : ∀ (n j : Nat) (w2 : Nat → Nat), j ≤ 10 → 11 ≤ j + n → (sw_wI a b ln X w2) → (sw_wE a b ln X j w2) → ∀ (H : Heap) (locs : List Loc), sw_XP D g k p a b ln w2 pg lf H → va_S (sw_XA g) s.heap H locs → ∀ (ls : Array Slot), lv_has ls 5 [(0, .ref (g 0)), (1, .int (nI (X))), (2, .int (nI (j)))] → W P l e R s m args bl mt c H locs 0 0 Q (F0 m 39 ls []) := by
            intro n
            induction n with
            | zero => intro j w2 h1 h2; exact absurd h2 (by omega)
            | succ n ih39 =>
              intro j w2 hi39 hn39 hI2 hE2 H locs hP hS ls hl
              refine lv_iload_n hx hb dX0_measure_39 rfl (lv_at hl 2 rfl) ?_
              refine lv_bipush (v := nI 10) hx hb dX0_measure_40 (by decide) ?_
              refine sr_ge (tgt := 103) hx hb (by omega) (by omega) dX0_measure_42 (by decide) (fun c42 => ?_) (fun c42 => ?_)
              · have hE10 : sw_wE a b ln X 10 w2 := ek_v (P := fun z => sw_wE a b ln X z w2) (show 10 = j by omega) hE2
                refine lv_iconst (v := nI 0) hx hb dX0_measure_103 (by decide) ?_
                refine lv_istore_n (lv' := [(2, .int (nI (0))), (0, .ref (g 0)), (1, .int (nI (X)))]) hx hb dX0_measure_104 rfl hl (by decide) rfl (fun ls hl => ?_)
                have L105 : ∀ (n q : Nat) (w3 : Nat → Nat), q ≤ 6 → 7 ≤ q + n → (sw_wI a b ln X w3) → (sw_wE a b ln X 10 w3) → (sw_wT q w3) → ∀ (H : Heap) (locs : List Loc), sw_XP D g k p a b ln w3 pg lf H → va_S (sw_XA g) s.heap H locs → ∀ (ls : Array Slot), lv_has ls 5 [(0, .ref (g 0)), (1, .int (nI (X))), (2, .int (nI (q)))] → W P l e R s m args bl mt c H locs 0 0 Q (F0 m 105 ls []) := by
                  intro n
                  induction n with
                  | zero => intro q w3 h1 h2; exact absurd h2 (by omega)
                  | succ n ih105 =>
                    intro q w3 hi105 hn105 hI3 hE3 hT3 H locs hP hS ls hl
                    refine lv_iload_n hx hb dX0_measure_105 rfl (lv_at hl 2 rfl) ?_
                    refine lv_bipush (v := nI 6) hx hb dX0_measure_106 (by decide) ?_
                    refine sr_ge (tgt := 181) hx hb (by omega) (by omega) dX0_measure_108 (by decide) (fun c108 => ?_) (fun c108 => ?_)
                    · exact hret _ _ w3 _ _ dX0_measure_181 (sw_wF_of hr hI3 hE3 (ek_v (P := fun z => sw_wT z w3) (show 6 = q by omega) hT3)) hP hS
                    · refine lv_iconst (v := nI 0) hx hb dX0_measure_111 (by decide) ?_
                      refine lv_istore_n (lv' := [(3, .int (nI (0))), (0, .ref (g 0)), (1, .int (nI (X))), (2, .int (nI (q)))]) hx hb dX0_measure_112 rfl hl (by decide) rfl (fun ls hl => ?_)
                      have L113 : ∀ (n t : Nat) (w4 : Nat → Nat), t ≤ 36 → 37 ≤ t + n → (sw_wS w3 q t w4) → ∀ (H : Heap) (locs : List Loc), sw_XP D g k p a b ln w4 pg lf H → va_S (sw_XA g) s.heap H locs → ∀ (ls : Array Slot), lv_has ls 5 [(0, .ref (g 0)), (1, .int (nI (X))), (2, .int (nI (q))), (3, .int (nI (t)))] → W P l e R s m args bl mt c H locs 0 0 Q (F0 m 113 ls []) := by
                        intro n
                        induction n with
                        | zero => intro t w4 h1 h2; exact absurd h2 (by omega)
                        | succ n ih113 =>
                          intro t w4 hi113 hn113 hS4 H locs hP hS ls hl
                          refine lv_iload_n hx hb dX0_measure_113 rfl (lv_at hl 3 rfl) ?_
                          refine lv_bipush (v := nI 36) hx hb dX0_measure_114 (by decide) ?_
                          refine sr_ge (tgt := 175) hx hb (by omega) (by omega) dX0_measure_116 (by decide) (fun c116 => ?_) (fun c116 => ?_)
                          · have hS36 : sw_wS w3 q 36 w4 := ek_v (P := fun z => sw_wS w3 q z w4) (show 36 = t by omega) hS4
                            refine lv_iinc (v := nI (q + 1)) (lv' := [(2, .int (nI (q + 1))), (0, .ref (g 0)), (1, .int (nI (X))), (3, .int (nI (t)))]) hx hb dX0_measure_175 hl (k := 2) rfl (sn_inc (q)) (by decide) rfl (fun ls hl => ?_)
                            refine lv_goto (tgt := 105) hx hb dX0_measure_178 (by decide) ?_
                            exact ih105 (q + 1) (w4) (by omega) (by omega) (sw_wS_e hr hS36 (by omega) hI3 hE3 hT3).1 (sw_wS_e hr hS36 (by omega) hI3 hE3 hT3).2.1 (sw_wS_e hr hS36 (by omega) hI3 hE3 hT3).2.2 _ _ hP hS ls (lv_sub hl [1, 2, 0] rfl)
                          · refine lv_aload_n hx hb dX0_measure_119 rfl (lv_at hl 0 rfl) ?_
                            refine xg4 hx hb hts hown hK hP dX0_measure_120 ?_
                            refine lv_iload_n hx hb dX0_measure_123 rfl (lv_at hl 3 rfl) ?_
                            refine lv_bipush (v := nI 6) hx hb dX0_measure_124 (by decide) ?_
                            refine sr_div hx hb (by omega) dX0_measure_126 ?_
                            refine lv_bipush (v := nI 6) hx hb dX0_measure_127 (by decide) ?_
                            refine sr_mul hx hb dX0_measure_129 ?_
                            refine lv_iload_n hx hb dX0_measure_130 rfl (lv_at hl 2 rfl) ?_
                            refine sr_add hx hb dX0_measure_131 ?_
                            refine xl4 hx hb hK hP (by omega) dX0_measure_132 ?_
                            refine lv_aload_n hx hb dX0_measure_133 rfl (lv_at hl 0 rfl) ?_
                            refine xg4 hx hb hts hown hK hP dX0_measure_134 ?_
                            refine lv_iload_n hx hb dX0_measure_137 rfl (lv_at hl 2 rfl) ?_
                            refine lv_bipush (v := nI 6) hx hb dX0_measure_138 (by decide) ?_
                            refine sr_mul hx hb dX0_measure_140 ?_
                            refine lv_iload_n hx hb dX0_measure_141 rfl (lv_at hl 3 rfl) ?_
                            refine lv_bipush (v := nI 6) hx hb dX0_measure_142 (by decide) ?_
                            refine sr_rem hx hb (by omega) dX0_measure_144 ?_
                            refine sr_add hx hb dX0_measure_145 ?_
                            refine xl4 hx hb hK hP (by omega) dX0_measure_146 ?_
                            refine sr_add hx hb dX0_measure_147 ?_
                            refine lv_istore (lv' := [(4, .int (nI ((w4 ((((t) / 6) * (6)) + (q))) + (w4 ((q * 6) + ((t) % 6)))))), (0, .ref (g 0)), (1, .int (nI (X))), (2, .int (nI (q))), (3, .int (nI (t)))]) hx hb dX0_measure_148 hl (by decide) rfl (fun ls hl => ?_)
                            have k1 := sw_wS_le hI3 hS4 (show t / 6 * 6 + q < 36 by omega)
                            have k2 := sw_wS_le hI3 hS4 (show q * 6 + t % 6 < 36 by omega)
                            have k3 := sw_wS_le hI3 hS4 (show t < 36 by omega)
                            refine lv_iload hx hb dX0_measure_150 (lv_at hl 0 rfl) ?_
                            refine lv_aload_n hx hb dX0_measure_152 rfl (lv_at hl 1 rfl) ?_
                            refine xg4 hx hb hts hown hK hP dX0_measure_153 ?_
                            refine lv_iload_n hx hb dX0_measure_156 rfl (lv_at hl 4 rfl) ?_
                            refine xl4 hx hb hK hP (by omega) dX0_measure_157 ?_
                            refine sr_ge (tgt := 169) hx hb (by omega) (by omega) dX0_measure_158 (by decide) (fun c158 => ?_) (fun c158 => ?_)
                            · refine lv_iinc (v := nI (t + 1)) (lv' := [(3, .int (nI (t + 1))), (4, .int (nI ((w4 ((((t) / 6) * (6)) + (q))) + (w4 ((q * 6) + ((t) % 6)))))), (0, .ref (g 0)), (1, .int (nI (X))), (2, .int (nI (q)))]) hx hb dX0_measure_169 hl (k := 4) rfl (sn_inc (t)) (by decide) rfl (fun ls hl => ?_)
                              refine lv_goto (tgt := 113) hx hb dX0_measure_172 (by decide) ?_
                              exact ih113 (t + 1) (w4) (by omega) (by omega) (by have z := sw_wS_s hS4 (by omega) (by omega) (hI3.2 q (by omega)); rw [if_neg (by omega)] at z; exact z) _ _ hP hS ls (lv_sub hl [2, 3, 4, 0] rfl)
                            · refine lv_aload_n hx hb dX0_measure_161 rfl (lv_at hl 1 rfl) ?_
                              refine xg4 hx hb hts hown hK hP dX0_measure_162 ?_
                              refine lv_iload_n hx hb dX0_measure_165 rfl (lv_at hl 4 rfl) ?_
                              refine lv_iload hx hb dX0_measure_166 (lv_at hl 0 rfl) ?_
                              refine xs4 hx hb hK hP hg hS (by omega) dX0_measure_168 (fun H locs hP hS => ?_)
                              refine lv_iinc (v := nI (t + 1)) (lv' := [(3, .int (nI (t + 1))), (4, .int (nI ((w4 ((((t) / 6) * (6)) + (q))) + (w4 ((q * 6) + ((t) % 6)))))), (0, .ref (g 0)), (1, .int (nI (X))), (2, .int (nI (q)))]) hx hb dX0_measure_169 hl (k := 4) rfl (sn_inc (t)) (by decide) rfl (fun ls hl => ?_)
                              refine lv_goto (tgt := 113) hx hb dX0_measure_172 (by decide) ?_
                              exact ih113 (t + 1) (va_up w4 (t) ((w4 ((((t) / 6) * (6)) + (q))) + (w4 ((q * 6) + ((t) % 6))))) (by omega) (by omega) (by have z := sw_wS_s hS4 (by omega) (by omega) (hI3.2 q (by omega)); rw [if_pos c158] at z; exact z) _ _ hP hS ls (lv_sub hl [2, 3, 4, 0] rfl)
                      exact L113 (37) (0) (w3) (by omega) (by omega) (sw_wS_0 w3 q) _ _ hP hS ls (lv_sub hl [1, 2, 3, 0] rfl)
                exact L105 (7) (0) (w2) (by omega) (by omega) hI2 hE10 (sw_wT_0 w2) _ _ hP hS ls (lv_sub hl [1, 2, 0] rfl)
              · refine lv_iload_n hx hb dX0_measure_45 rfl (lv_at hl 1 rfl) ?_
                refine lv_iload_n hx hb dX0_measure_46 rfl (lv_at hl 2 rfl) ?_
                refine sr_bit hx hb (by omega) (by omega) dX0_measure_47 dX0_measure_48 dX0_measure_49 ?_
                refine sr_bf (tgt := 97) hx hb dX0_measure_50 (by decide) (fun c50 => ?_) (fun c50 => ?_)
                · refine lv_iinc (v := nI (j + 1)) (lv' := [(2, .int (nI (j + 1))), (0, .ref (g 0)), (1, .int (nI (X)))]) hx hb dX0_measure_97 hl (k := 2) rfl (sn_inc (j)) (by decide) rfl (fun ls hl => ?_)
                  refine lv_goto (tgt := 39) hx hb dX0_measure_100 (by decide) ?_
                  exact ih39 (j + 1) (w2) (by omega) (by omega) hI2 (sw_wE_n hE2 c50) _ _ hP hS ls (lv_sub hl [1, 2, 0] rfl)
                · obtain ⟨ha6, hb6, hl6⟩ := hr j (by omega)
                  refine lv_aload_n hx hb dX0_measure_53 rfl (lv_at hl 0 rfl) ?_
                  refine lv_aload_n hx hb dX0_measure_54 rfl (lv_at hl 0 rfl) ?_
                  refine xg1 hx hb hts hown hK hP dX0_measure_55 ?_
                  refine lv_iload_n hx hb dX0_measure_58 rfl (lv_at hl 2 rfl) ?_
                  refine xl1 hx hb hK hP (by omega) dX0_measure_59 ?_
                  refine lv_aload_n hx hb dX0_measure_60 rfl (lv_at hl 0 rfl) ?_
                  refine xg2 hx hb hts hown hK hP dX0_measure_61 ?_
                  refine lv_iload_n hx hb dX0_measure_64 rfl (lv_at hl 2 rfl) ?_
                  refine xl2 hx hb hK hP (by omega) dX0_measure_65 ?_
                  refine lv_aload_n hx hb dX0_measure_66 rfl (lv_at hl 0 rfl) ?_
                  refine xg3 hx hb hts hown hK hP dX0_measure_67 ?_
                  refine lv_iload_n hx hb dX0_measure_70 rfl (lv_at hl 2 rfl) ?_
                  refine xl3 hx hb hK hP (by omega) dX0_measure_71 ?_
                  refine xc_wv (As := [.int (nI (a (j))), .int (nI (b (j))), .int (nI (ln (j)))]) (n := 3) S (cX_shorten l D g k p a b ln w2 pg lf hg ha6 hb6 hl6 (sw_wI_le hI2 (by omega))) (lw_V q112 q114 qs6 q21 q115) hdX0_shorten (by omega) (by omega) (by decide) (Nat.zero_le _) (Nat.zero_le _) hK hP hS rfl hl.1 (Nat.le_of_ble_eq_true rfl) dX0_measure_72 rfl (fun u H locs hq hP hS => ?_)
                  have hP : sw_XP D g k p a b ln u pg lf H := hP
                  subst hq
                  refine lv_aload_n hx hb dX0_measure_75 rfl (lv_at hl 0 rfl) ?_
                  refine lv_aload_n hx hb dX0_measure_76 rfl (lv_at hl 0 rfl) ?_
                  refine xg2 hx hb hts hown hK hP dX0_measure_77 ?_
                  refine lv_iload_n hx hb dX0_measure_80 rfl (lv_at hl 2 rfl) ?_
                  refine xl2 hx hb hK hP (by omega) dX0_measure_81 ?_
                  refine lv_aload_n hx hb dX0_measure_82 rfl (lv_at hl 0 rfl) ?_
                  refine xg1 hx hb hts hown hK hP dX0_measure_83 ?_
                  refine lv_iload_n hx hb dX0_measure_86 rfl (lv_at hl 2 rfl) ?_
                  refine xl1 hx hb hK hP (by omega) dX0_measure_87 ?_
                  refine lv_aload_n hx hb dX0_measure_88 rfl (lv_at hl 0 rfl) ?_
                  refine xg3 hx hb hts hown hK hP dX0_measure_89 ?_
                  refine lv_iload_n hx hb dX0_measure_92 rfl (lv_at hl 2 rfl) ?_
                  refine xl3 hx hb hK hP (by omega) dX0_measure_93 ?_
                  refine xc_wv (As := [.int (nI (b (j))), .int (nI (a (j))), .int (nI (ln (j)))]) (n := 3) S (cX_shorten l D g k p a b ln (sw_sh w2 (a j) (b j) (ln j)) pg lf hg hb6 ha6 hl6 (Nat.le_trans (sw_sh_le _ _ _ _ _) (sw_wI_le hI2 (by omega)))) (lw_V q112 q114 qs6 q21 q115) hdX0_shorten (by omega) (by omega) (by decide) (Nat.zero_le _) (Nat.zero_le _) hK hP hS rfl hl.1 (Nat.le_of_ble_eq_true rfl) dX0_measure_94 rfl (fun u H locs hq hP hS => ?_)
                  have hP : sw_XP D g k p a b ln u pg lf H := hP
                  subst hq
                  refine lv_iinc (v := nI (j + 1)) (lv' := [(2, .int (nI (j + 1))), (0, .ref (g 0)), (1, .int (nI (X)))]) hx hb dX0_measure_97 hl (k := 2) rfl (sn_inc (j)) (by decide) rfl (fun ls hl => ?_)
                  refine lv_goto (tgt := 39) hx hb dX0_measure_100 (by decide) ?_
                  exact ih39 (j + 1) (sw_sh (sw_sh w2 (a j) (b j) (ln j)) (b j) (a j) (ln j)) (by omega) (by omega) (sw_wE_s hr (by omega) hI2 hE2 c50).1 (sw_wE_s hr (by omega) hI2 hE2 c50).2 _ _ hP hS ls (lv_sub hl [1, 2, 0] rfl)
          exact L39 (11) (0) (w1) (by omega) (by omega) hI (sw_wE_0 a b ln X w1) _ _ hP hS ls (lv_sub hl [1, 2, 0] rfl)
        · refine lv_aload_n hx hb dX0_measure_8 rfl (lv_at hl 0 rfl) ?_
          refine xg4 hx hb hts hown hK hP dX0_measure_9 ?_
          refine lv_iload_n hx hb dX0_measure_12 rfl (lv_at hl 2 rfl) ?_
          refine lv_iload_n hx hb dX0_measure_13 rfl (lv_at hl 2 rfl) ?_
          refine lv_bipush (v := nI 6) hx hb dX0_measure_14 (by decide) ?_
          refine sr_div hx hb (by omega) dX0_measure_16 ?_
          refine lv_iload_n hx hb dX0_measure_17 rfl (lv_at hl 2 rfl) ?_
          refine lv_bipush (v := nI 6) hx hb dX0_measure_18 (by decide) ?_
          refine sr_rem hx hb (by omega) dX0_measure_20 ?_
          refine sr_ne (tgt := 28) hx hb (by omega) (by omega) dX0_measure_21 (by decide) (fun c21 => ?_) (fun c21 => ?_)
          · refine lv_ldc (v := nI 100000) hx hb hown (hts _ q111) dX0_measure_28 ?_
            refine xs4 hx hb hK hP hg hS (by omega) dX0_measure_30 (fun H locs hP hS => ?_)
            refine lv_iinc (v := nI (i + 1)) (lv' := [(2, .int (nI (i + 1))), (0, .ref (g 0)), (1, .int (nI (X)))]) hx hb dX0_measure_31 hl (k := 2) rfl (sn_inc (i)) (by decide) rfl (fun ls hl => ?_)
            refine lv_goto (tgt := 2) hx hb dX0_measure_34 (by decide) ?_
            exact ih2 (i + 1) (va_up w1 (i) (100000)) (by omega) (by omega) (sw_w1_s h1 (by rw [if_neg c21])) _ _ hP hS ls (lv_sub hl [1, 2, 0] rfl)
          · refine lv_iconst (v := nI 0) hx hb dX0_measure_24 (by decide) ?_
            refine lv_goto (tgt := 30) hx hb dX0_measure_25 (by decide) ?_
            refine xs4 hx hb hK hP hg hS (by omega) dX0_measure_30 (fun H locs hP hS => ?_)
            refine lv_iinc (v := nI (i + 1)) (lv' := [(2, .int (nI (i + 1))), (0, .ref (g 0)), (1, .int (nI (X)))]) hx hb dX0_measure_31 hl (k := 2) rfl (sn_inc (i)) (by decide) rfl (fun ls hl => ?_)
            refine lv_goto (tgt := 2) hx hb dX0_measure_34 (by decide) ?_
            exact ih2 (i + 1) (va_up w1 (i) (0)) (by omega) (by omega) (sw_w1_s h1 (by rw [if_pos c21])) _ _ hP hS ls (lv_sub hl [1, 2, 0] rfl)
    exact L2 (37) (0) (w) (by omega) (by omega) (sw_w1_0 w) _ _ hP hS ls (lv_sub hl [1, 2, 0] rfl)
  rw [hH, hlo] at hgo
  exact hgo
theorem hdX0_measure : yX0_measure.cls = RX0 ∧ yX0_measure.cls ≠ "java/lang/invoke/MethodHandle" ∧ yX0_measure.cls ≠ "java/lang/invoke/VarHandle" ∧ (parseMethodDescriptor yX0_measure.desc).map (fun d => d.parameters.length) = some 1 := by decide +kernel
end
section
/-! CONTRACTS of StreetWalker: pairings, extra sets -/
set_option maxHeartbeats 4000000 in
set_option maxRecDepth 100000 in
theorem cX_pairUp (l : Launch) (D : va_G) (g : Nat → Nat) (k : Nat → ClassId) (p : Nat) (a b ln w pg lf : Nat → Nat) {M : Nat} (hM : M < 64) (hW : ∀ i j, i < 6 → j < 6 → w (i * 6 + j) ≤ 100000) (hPb : ∀ t, t < M → sw_sub t M → pg t ≤ 200000) : Met l yX0_pairUp (ws_ yX0_pairUp cX0_pairUp 7 (some .int)) (sw_rm 0) (va_Pc [.ref (g 0), .int (nI (M))] (fun U => sw_XP D g k p a b ln w pg lf U.heap ∧ sw_XK D k U)) (vp_Si (fun r => ∃ v, r = nI v ∧ sw_pu w pg M v ∧ v ≤ 200000)) 0 0 (fun _ => False) := by
  refine so_i (own := RX0) (by decide) rfl (Nat.le_of_ble_eq_true rfl) (fun P e R s m args bl mt c Q ls S hR hL hB hl hret => ?_)
  obtain ⟨hP, hK⟩ := hB
  obtain ⟨hx, hb, hml, hown, hts⟩ := id S
  have hl : lv_has ls 7 [(0, .ref (g 0)), (1, .int (nI (M)))] := hl
  refine lv_iconst (v := nI 0) hx hb dX0_pairUp_0 (by decide) ?_
  refine lv_istore_n (lv' := [(2, .int (nI (0))), (0, .ref (g 0)), (1, .int (nI (M)))]) hx hb dX0_pairUp_1 rfl hl (by decide) rfl (fun ls hl => ?_)
  have L2 : ∀ (n i : Nat), i ≤ 6 → 7 ≤ i + n → (∀ t, t < i → M.testBit t = false) → ∀ (ls : Array Slot), lv_has ls 7 [(0, .ref (g 0)), (1, .int (nI (M))), (2, .int (nI (i)))] → W P l e R s m args bl mt c s.heap [] 0 0 Q (F0 m 2 ls []) := by
    intro n
    induction n with
    | zero => intro i h1 h2; exact absurd h2 (by omega)
    | succ n ih2 =>
      intro i hi2 hn2 hz ls hl
      refine lv_iload_n hx hb dX0_pairUp_2 rfl (lv_at hl 2 rfl) ?_
      refine lv_bipush (v := nI 6) hx hb dX0_pairUp_3 (by decide) ?_
      refine sr_ge (tgt := 22) hx hb (by omega) (by omega) dX0_pairUp_5 (by decide) (fun c5 => ?_) (fun c5 => ?_)
      · have hlow : i < 6 → M.testBit i = true := fun z => absurd z (by omega)
        refine lv_ldc (v := nI 200000) hx hb hown (hts _ q116) dX0_pairUp_22 ?_
        refine lv_istore_n (lv' := [(3, .int (nI (200000))), (0, .ref (g 0)), (1, .int (nI (M))), (2, .int (nI (i)))]) hx hb dX0_pairUp_24 rfl hl (by decide) rfl (fun ls hl => ?_)
        refine lv_iload_n hx hb dX0_pairUp_25 rfl (lv_at hl 3 rfl) ?_
        refine lv_iconst (v := nI 1) hx hb dX0_pairUp_26 (by decide) ?_
        refine sr_add hx hb dX0_pairUp_27 ?_
        refine lv_istore (lv' := [(4, .int (nI (i + 1))), (3, .int (nI (200000))), (0, .ref (g 0)), (1, .int (nI (M))), (2, .int (nI (i)))]) hx hb dX0_pairUp_28 hl (by decide) rfl (fun ls hl => ?_)
        have L30 : ∀ (n j : Nat) (x1 : Nat), j ≤ 7 → 8 ≤ j + n → (sw_pl w pg M i j x1) → (i < j) → (i < 6 → j ≤ 6) → ∀ (ls : Array Slot), lv_has ls 7 [(0, .ref (g 0)), (1, .int (nI (M))), (2, .int (nI (i))), (3, .int (nI (x1))), (4, .int (nI (j)))] → W P l e R s m args bl mt c s.heap [] 0 0 Q (F0 m 30 ls []) := by
          intro n
          induction n with
          | zero => intro j x1 h1 h2; exact absurd h2 (by omega)
          | succ n ih30 =>
            intro j x1 hi30 hn30 hl2 hij hj6 ls hl
            refine lv_iload hx hb dX0_pairUp_30 (lv_at hl 4 rfl) ?_
            refine lv_bipush (v := nI 6) hx hb dX0_pairUp_32 (by decide) ?_
            refine sr_ge (tgt := 99) hx hb (by omega) (by omega) dX0_pairUp_34 (by decide) (fun c34 => ?_) (fun c34 => ?_)
            · refine lv_iload_n hx hb dX0_pairUp_99 rfl (lv_at hl 3 rfl) ?_
              exact hret _ _ _ dX0_pairUp_100 ⟨x1, rfl, sw_pu_of hz hlow (fun _ => ek_v (P := fun z => sw_pl w pg M i z x1) (show 6 = j by omega) hl2), hl2.1⟩
            · refine lv_iload_n hx hb dX0_pairUp_37 rfl (lv_at hl 1 rfl) ?_
              refine lv_iload hx hb dX0_pairUp_38 (lv_at hl 4 rfl) ?_
              refine sr_bit hx hb (by omega) (by omega) dX0_pairUp_40 dX0_pairUp_41 dX0_pairUp_42 ?_
              refine sr_bf (tgt := 93) hx hb dX0_pairUp_43 (by decide) (fun c43 => ?_) (fun c43 => ?_)
              · refine lv_iinc (v := nI (j + 1)) (lv' := [(4, .int (nI (j + 1))), (0, .ref (g 0)), (1, .int (nI (M))), (2, .int (nI (i))), (3, .int (nI (x1)))]) hx hb dX0_pairUp_93 hl (k := 4) rfl (sn_inc (j)) (by decide) rfl (fun ls hl => ?_)
                refine lv_goto (tgt := 30) hx hb dX0_pairUp_96 (by decide) ?_
                exact ih30 (j + 1) (x1) (by omega) (by omega) (sw_pl_n hl2 c43) (by omega) (by omega) ls (lv_sub hl [1, 2, 3, 4, 0] rfl)
              · have hbi := hlow (by omega)
                have k1 := hW i j (by omega) (by omega)
                have k2 := hPb (sw_an (sw_an M (2 ^ i)) (2 ^ j)) (sw_two_lt hbi) (sw_sub_trans (sw_an_sub _ _) (sw_an_sub _ _))
                have k3 := hl2.1
                refine lv_iload_n hx hb dX0_pairUp_46 rfl (lv_at hl 1 rfl) ?_
                refine lv_iconst (v := nI 1) hx hb dX0_pairUp_47 (by decide) ?_
                refine lv_iload_n hx hb dX0_pairUp_48 rfl (lv_at hl 2 rfl) ?_
                refine sr_shl hx hb (by omega) dX0_pairUp_49 ?_
                refine sr_not hx hb dX0_pairUp_50 dX0_pairUp_51 dX0_pairUp_52 ?_
                refine lv_iconst (v := nI 1) hx hb dX0_pairUp_53 (by decide) ?_
                refine lv_iload hx hb dX0_pairUp_54 (lv_at hl 4 rfl) ?_
                refine sr_shl hx hb (by omega) dX0_pairUp_56 ?_
                refine sr_not hx hb dX0_pairUp_57 dX0_pairUp_58 dX0_pairUp_59 ?_
                refine lv_istore (lv' := [(5, .int (nI (sw_an (sw_an (M) (2 ^ (i))) (2 ^ (j))))), (0, .ref (g 0)), (1, .int (nI (M))), (2, .int (nI (i))), (3, .int (nI (x1))), (4, .int (nI (j)))]) hx hb dX0_pairUp_60 hl (by decide) rfl (fun ls hl => ?_)
                refine lv_aload_n hx hb dX0_pairUp_62 rfl (lv_at hl 1 rfl) ?_
                refine xg4 hx hb hts hown hK hP dX0_pairUp_63 ?_
                refine lv_iload_n hx hb dX0_pairUp_66 rfl (lv_at hl 3 rfl) ?_
                refine lv_bipush (v := nI 6) hx hb dX0_pairUp_67 (by decide) ?_
                refine sr_mul hx hb dX0_pairUp_69 ?_
                refine lv_iload hx hb dX0_pairUp_70 (lv_at hl 5 rfl) ?_
                refine sr_add hx hb dX0_pairUp_72 ?_
                refine xl4 hx hb hK hP (by omega) dX0_pairUp_73 ?_
                refine lv_aload_n hx hb dX0_pairUp_74 rfl (lv_at hl 1 rfl) ?_
                refine xg5 hx hb hts hown hK hP dX0_pairUp_75 ?_
                refine lv_iload hx hb dX0_pairUp_78 (lv_at hl 0 rfl) ?_
                refine xl5 hx hb hK hP (sw_an_lt (sw_an_lt hM)) dX0_pairUp_80 ?_
                refine sr_add hx hb dX0_pairUp_81 ?_
                refine lv_istore (lv' := [(6, .int (nI ((w ((i * 6) + (j))) + (pg (sw_an (sw_an (M) (2 ^ (i))) (2 ^ (j))))))), (5, .int (nI (sw_an (sw_an (M) (2 ^ (i))) (2 ^ (j))))), (0, .ref (g 0)), (1, .int (nI (M))), (2, .int (nI (i))), (3, .int (nI (x1))), (4, .int (nI (j)))]) hx hb dX0_pairUp_82 hl (by decide) rfl (fun ls hl => ?_)
                refine lv_iload hx hb dX0_pairUp_84 (lv_at hl 0 rfl) ?_
                refine lv_iload_n hx hb dX0_pairUp_86 rfl (lv_at hl 5 rfl) ?_
                refine sr_ge (tgt := 93) hx hb (by omega) (by omega) dX0_pairUp_87 (by decide) (fun c87 => ?_) (fun c87 => ?_)
                · refine lv_iinc (v := nI (j + 1)) (lv' := [(4, .int (nI (j + 1))), (6, .int (nI ((w ((i * 6) + (j))) + (pg (sw_an (sw_an (M) (2 ^ (i))) (2 ^ (j))))))), (5, .int (nI (sw_an (sw_an (M) (2 ^ (i))) (2 ^ (j))))), (0, .ref (g 0)), (1, .int (nI (M))), (2, .int (nI (i))), (3, .int (nI (x1)))]) hx hb dX0_pairUp_93 hl (k := 6) rfl (sn_inc (j)) (by decide) rfl (fun ls hl => ?_)
                  refine lv_goto (tgt := 30) hx hb dX0_pairUp_96 (by decide) ?_
                  exact ih30 (j + 1) (x1) (by omega) (by omega) (sw_pl_ge hl2 rfl (by omega)) (by omega) (by omega) ls (lv_sub hl [3, 4, 5, 6, 0] rfl)
                · refine lv_iload hx hb dX0_pairUp_90 (lv_at hl 0 rfl) ?_
                  refine lv_istore_n (lv' := [(3, .int (nI ((w ((i * 6) + (j))) + (pg (sw_an (sw_an (M) (2 ^ (i))) (2 ^ (j))))))), (6, .int (nI ((w ((i * 6) + (j))) + (pg (sw_an (sw_an (M) (2 ^ (i))) (2 ^ (j))))))), (5, .int (nI (sw_an (sw_an (M) (2 ^ (i))) (2 ^ (j))))), (0, .ref (g 0)), (1, .int (nI (M))), (2, .int (nI (i))), (4, .int (nI (j)))]) hx hb dX0_pairUp_92 rfl hl (by decide) rfl (fun ls hl => ?_)
                  refine lv_iinc (v := nI (j + 1)) (lv' := [(4, .int (nI (j + 1))), (3, .int (nI ((w ((i * 6) + (j))) + (pg (sw_an (sw_an (M) (2 ^ (i))) (2 ^ (j))))))), (6, .int (nI ((w ((i * 6) + (j))) + (pg (sw_an (sw_an (M) (2 ^ (i))) (2 ^ (j))))))), (5, .int (nI (sw_an (sw_an (M) (2 ^ (i))) (2 ^ (j))))), (0, .ref (g 0)), (1, .int (nI (M))), (2, .int (nI (i)))]) hx hb dX0_pairUp_93 hl (k := 6) rfl (sn_inc (j)) (by decide) rfl (fun ls hl => ?_)
                  refine lv_goto (tgt := 30) hx hb dX0_pairUp_96 (by decide) ?_
                  exact ih30 (j + 1) ((w ((i * 6) + (j))) + (pg (sw_an (sw_an (M) (2 ^ (i))) (2 ^ (j))))) (by omega) (by omega) (sw_pl_lt hl2 (by omega) c43 rfl c87) (by omega) (by omega) ls (lv_sub hl [4, 5, 6, 1, 0] rfl)
        exact L30 (8) (i + 1) (200000) (by omega) (by omega) (sw_pl_0 w pg M i (i + 1) (Nat.le_refl _)) (by omega) (by omega) ls (lv_sub hl [2, 3, 4, 1, 0] rfl)
      · refine lv_iload_n hx hb dX0_pairUp_8 rfl (lv_at hl 1 rfl) ?_
        refine lv_iload_n hx hb dX0_pairUp_9 rfl (lv_at hl 2 rfl) ?_
        refine sr_bit hx hb (by omega) (by omega) dX0_pairUp_10 dX0_pairUp_11 dX0_pairUp_12 ?_
        refine sr_bt (tgt := 22) hx hb dX0_pairUp_13 (by decide) (fun c13 => ?_) (fun c13 => ?_)
        · have hlow : i < 6 → M.testBit i = true := fun _ => c13
          refine lv_ldc (v := nI 200000) hx hb hown (hts _ q116) dX0_pairUp_22 ?_
          refine lv_istore_n (lv' := [(3, .int (nI (200000))), (0, .ref (g 0)), (1, .int (nI (M))), (2, .int (nI (i)))]) hx hb dX0_pairUp_24 rfl hl (by decide) rfl (fun ls hl => ?_)
          refine lv_iload_n hx hb dX0_pairUp_25 rfl (lv_at hl 3 rfl) ?_
          refine lv_iconst (v := nI 1) hx hb dX0_pairUp_26 (by decide) ?_
          refine sr_add hx hb dX0_pairUp_27 ?_
          refine lv_istore (lv' := [(4, .int (nI (i + 1))), (3, .int (nI (200000))), (0, .ref (g 0)), (1, .int (nI (M))), (2, .int (nI (i)))]) hx hb dX0_pairUp_28 hl (by decide) rfl (fun ls hl => ?_)
          have L30 : ∀ (n j : Nat) (x1 : Nat), j ≤ 7 → 8 ≤ j + n → (sw_pl w pg M i j x1) → (i < j) → (i < 6 → j ≤ 6) → ∀ (ls : Array Slot), lv_has ls 7 [(0, .ref (g 0)), (1, .int (nI (M))), (2, .int (nI (i))), (3, .int (nI (x1))), (4, .int (nI (j)))] → W P l e R s m args bl mt c s.heap [] 0 0 Q (F0 m 30 ls []) := by
            intro n
            induction n with
            | zero => intro j x1 h1 h2; exact absurd h2 (by omega)
            | succ n ih30 =>
              intro j x1 hi30 hn30 hl2 hij hj6 ls hl
              refine lv_iload hx hb dX0_pairUp_30 (lv_at hl 4 rfl) ?_
              refine lv_bipush (v := nI 6) hx hb dX0_pairUp_32 (by decide) ?_
              refine sr_ge (tgt := 99) hx hb (by omega) (by omega) dX0_pairUp_34 (by decide) (fun c34 => ?_) (fun c34 => ?_)
              · refine lv_iload_n hx hb dX0_pairUp_99 rfl (lv_at hl 3 rfl) ?_
                exact hret _ _ _ dX0_pairUp_100 ⟨x1, rfl, sw_pu_of hz hlow (fun _ => ek_v (P := fun z => sw_pl w pg M i z x1) (show 6 = j by omega) hl2), hl2.1⟩
              · refine lv_iload_n hx hb dX0_pairUp_37 rfl (lv_at hl 1 rfl) ?_
                refine lv_iload hx hb dX0_pairUp_38 (lv_at hl 4 rfl) ?_
                refine sr_bit hx hb (by omega) (by omega) dX0_pairUp_40 dX0_pairUp_41 dX0_pairUp_42 ?_
                refine sr_bf (tgt := 93) hx hb dX0_pairUp_43 (by decide) (fun c43 => ?_) (fun c43 => ?_)
                · refine lv_iinc (v := nI (j + 1)) (lv' := [(4, .int (nI (j + 1))), (0, .ref (g 0)), (1, .int (nI (M))), (2, .int (nI (i))), (3, .int (nI (x1)))]) hx hb dX0_pairUp_93 hl (k := 4) rfl (sn_inc (j)) (by decide) rfl (fun ls hl => ?_)
                  refine lv_goto (tgt := 30) hx hb dX0_pairUp_96 (by decide) ?_
                  exact ih30 (j + 1) (x1) (by omega) (by omega) (sw_pl_n hl2 c43) (by omega) (by omega) ls (lv_sub hl [1, 2, 3, 4, 0] rfl)
                · have hbi := hlow (by omega)
                  have k1 := hW i j (by omega) (by omega)
                  have k2 := hPb (sw_an (sw_an M (2 ^ i)) (2 ^ j)) (sw_two_lt hbi) (sw_sub_trans (sw_an_sub _ _) (sw_an_sub _ _))
                  have k3 := hl2.1
                  refine lv_iload_n hx hb dX0_pairUp_46 rfl (lv_at hl 1 rfl) ?_
                  refine lv_iconst (v := nI 1) hx hb dX0_pairUp_47 (by decide) ?_
                  refine lv_iload_n hx hb dX0_pairUp_48 rfl (lv_at hl 2 rfl) ?_
                  refine sr_shl hx hb (by omega) dX0_pairUp_49 ?_
                  refine sr_not hx hb dX0_pairUp_50 dX0_pairUp_51 dX0_pairUp_52 ?_
                  refine lv_iconst (v := nI 1) hx hb dX0_pairUp_53 (by decide) ?_
                  refine lv_iload hx hb dX0_pairUp_54 (lv_at hl 4 rfl) ?_
                  refine sr_shl hx hb (by omega) dX0_pairUp_56 ?_
                  refine sr_not hx hb dX0_pairUp_57 dX0_pairUp_58 dX0_pairUp_59 ?_
                  refine lv_istore (lv' := [(5, .int (nI (sw_an (sw_an (M) (2 ^ (i))) (2 ^ (j))))), (0, .ref (g 0)), (1, .int (nI (M))), (2, .int (nI (i))), (3, .int (nI (x1))), (4, .int (nI (j)))]) hx hb dX0_pairUp_60 hl (by decide) rfl (fun ls hl => ?_)
                  refine lv_aload_n hx hb dX0_pairUp_62 rfl (lv_at hl 1 rfl) ?_
                  refine xg4 hx hb hts hown hK hP dX0_pairUp_63 ?_
                  refine lv_iload_n hx hb dX0_pairUp_66 rfl (lv_at hl 3 rfl) ?_
                  refine lv_bipush (v := nI 6) hx hb dX0_pairUp_67 (by decide) ?_
                  refine sr_mul hx hb dX0_pairUp_69 ?_
                  refine lv_iload hx hb dX0_pairUp_70 (lv_at hl 5 rfl) ?_
                  refine sr_add hx hb dX0_pairUp_72 ?_
                  refine xl4 hx hb hK hP (by omega) dX0_pairUp_73 ?_
                  refine lv_aload_n hx hb dX0_pairUp_74 rfl (lv_at hl 1 rfl) ?_
                  refine xg5 hx hb hts hown hK hP dX0_pairUp_75 ?_
                  refine lv_iload hx hb dX0_pairUp_78 (lv_at hl 0 rfl) ?_
                  refine xl5 hx hb hK hP (sw_an_lt (sw_an_lt hM)) dX0_pairUp_80 ?_
                  refine sr_add hx hb dX0_pairUp_81 ?_
                  refine lv_istore (lv' := [(6, .int (nI ((w ((i * 6) + (j))) + (pg (sw_an (sw_an (M) (2 ^ (i))) (2 ^ (j))))))), (5, .int (nI (sw_an (sw_an (M) (2 ^ (i))) (2 ^ (j))))), (0, .ref (g 0)), (1, .int (nI (M))), (2, .int (nI (i))), (3, .int (nI (x1))), (4, .int (nI (j)))]) hx hb dX0_pairUp_82 hl (by decide) rfl (fun ls hl => ?_)
                  refine lv_iload hx hb dX0_pairUp_84 (lv_at hl 0 rfl) ?_
                  refine lv_iload_n hx hb dX0_pairUp_86 rfl (lv_at hl 5 rfl) ?_
                  refine sr_ge (tgt := 93) hx hb (by omega) (by omega) dX0_pairUp_87 (by decide) (fun c87 => ?_) (fun c87 => ?_)
                  · refine lv_iinc (v := nI (j + 1)) (lv' := [(4, .int (nI (j + 1))), (6, .int (nI ((w ((i * 6) + (j))) + (pg (sw_an (sw_an (M) (2 ^ (i))) (2 ^ (j))))))), (5, .int (nI (sw_an (sw_an (M) (2 ^ (i))) (2 ^ (j))))), (0, .ref (g 0)), (1, .int (nI (M))), (2, .int (nI (i))), (3, .int (nI (x1)))]) hx hb dX0_pairUp_93 hl (k := 6) rfl (sn_inc (j)) (by decide) rfl (fun ls hl => ?_)
                    refine lv_goto (tgt := 30) hx hb dX0_pairUp_96 (by decide) ?_
                    exact ih30 (j + 1) (x1) (by omega) (by omega) (sw_pl_ge hl2 rfl (by omega)) (by omega) (by omega) ls (lv_sub hl [3, 4, 5, 6, 0] rfl)
                  · refine lv_iload hx hb dX0_pairUp_90 (lv_at hl 0 rfl) ?_
                    refine lv_istore_n (lv' := [(3, .int (nI ((w ((i * 6) + (j))) + (pg (sw_an (sw_an (M) (2 ^ (i))) (2 ^ (j))))))), (6, .int (nI ((w ((i * 6) + (j))) + (pg (sw_an (sw_an (M) (2 ^ (i))) (2 ^ (j))))))), (5, .int (nI (sw_an (sw_an (M) (2 ^ (i))) (2 ^ (j))))), (0, .ref (g 0)), (1, .int (nI (M))), (2, .int (nI (i))), (4, .int (nI (j)))]) hx hb dX0_pairUp_92 rfl hl (by decide) rfl (fun ls hl => ?_)
                    refine lv_iinc (v := nI (j + 1)) (lv' := [(4, .int (nI (j + 1))), (3, .int (nI ((w ((i * 6) + (j))) + (pg (sw_an (sw_an (M) (2 ^ (i))) (2 ^ (j))))))), (6, .int (nI ((w ((i * 6) + (j))) + (pg (sw_an (sw_an (M) (2 ^ (i))) (2 ^ (j))))))), (5, .int (nI (sw_an (sw_an (M) (2 ^ (i))) (2 ^ (j))))), (0, .ref (g 0)), (1, .int (nI (M))), (2, .int (nI (i)))]) hx hb dX0_pairUp_93 hl (k := 6) rfl (sn_inc (j)) (by decide) rfl (fun ls hl => ?_)
                    refine lv_goto (tgt := 30) hx hb dX0_pairUp_96 (by decide) ?_
                    exact ih30 (j + 1) ((w ((i * 6) + (j))) + (pg (sw_an (sw_an (M) (2 ^ (i))) (2 ^ (j))))) (by omega) (by omega) (sw_pl_lt hl2 (by omega) c43 rfl c87) (by omega) (by omega) ls (lv_sub hl [4, 5, 6, 1, 0] rfl)
          exact L30 (8) (i + 1) (200000) (by omega) (by omega) (sw_pl_0 w pg M i (i + 1) (Nat.le_refl _)) (by omega) (by omega) ls (lv_sub hl [2, 3, 4, 1, 0] rfl)
        · refine lv_iinc (v := nI (i + 1)) (lv' := [(2, .int (nI (i + 1))), (0, .ref (g 0)), (1, .int (nI (M)))]) hx hb dX0_pairUp_16 hl (k := 2) rfl (sn_inc (i)) (by decide) rfl (fun ls hl => ?_)
          refine lv_goto (tgt := 2) hx hb dX0_pairUp_19 (by decide) ?_
          exact ih2 (i + 1) (by omega) (by omega) (lt_s hz c13) ls (lv_sub hl [1, 2, 0] rfl)
  exact L2 (7) (0) (by omega) (by omega) (fun t z => absurd z (Nat.not_lt_zero t)) ls (lv_sub hl [1, 2, 0] rfl)
theorem hdX0_pairUp : yX0_pairUp.cls = RX0 ∧ yX0_pairUp.cls ≠ "java/lang/invoke/MethodHandle" ∧ yX0_pairUp.cls ≠ "java/lang/invoke/VarHandle" ∧ (parseMethodDescriptor yX0_pairUp.desc).map (fun d => d.parameters.length) = some 1 := by decide +kernel
set_option maxHeartbeats 4000000 in
set_option maxRecDepth 100000 in
theorem cX_join (l : Launch) (D : va_G) (g : Nat → Nat) (k : Nat → ClassId) (p : Nat) (a b ln w pg lf : Nat → Nat) {T X : Nat} (hg : sw_XD g) (hr : sw_rng a b ln) (hT : T < 64) (hX : X < 1024) : Met l yX0_join (ws_ yX0_join cX0_join 4 (some .int)) (sw_rm 2) (va_Pc [.ref (g 0), .int (nI (T)), .int (nI (X))] (fun U => sw_XP D g k p a b ln w pg lf U.heap ∧ sw_XK D k U)) (va_Qi (fun r (u : (Nat → Nat) × (Nat → Nat)) => ∃ v, r = nI v ∧ v ≤ 200000 ∧ sw_min a b ln X T v) (fun (u : (Nat → Nat) × (Nat → Nat)) t => (fun (u : (Nat → Nat) × (Nat → Nat)) (H : Heap) => sw_XP D g k p a b ln u.1 u.2 lf H) u t.heap) (sw_XA g)) 0 0 (sw_XA g) := by
  refine so_wi (own := RX0) (Bw := fun (u : (Nat → Nat) × (Nat → Nat)) (H : Heap) => sw_XP D g k p a b ln u.1 u.2 lf H) (by decide) rfl (Nat.le_of_ble_eq_true rfl) (fun P e R s m args bl mt c Q ls S hR hL hB hl hret => ?_)
  obtain ⟨hP, hK⟩ := hB
  obtain ⟨hx, hb, hml, hown, hts⟩ := id S
  have hl : lv_has ls 4 [(0, .ref (g 0)), (1, .int (nI (T))), (2, .int (nI (X)))] := hl
  have hS : va_S (sw_XA g) s.heap s.heap [] := va_S.rf
  obtain ⟨H, hH⟩ : ∃ H, H = s.heap := ⟨_, rfl⟩
  obtain ⟨locs, hlo⟩ : ∃ L : List Loc, L = [] := ⟨_, rfl⟩
  have hP : sw_XP D g k p a b ln w pg lf H := by rw [hH]; exact hP
  have hS : va_S (sw_XA g) s.heap H locs := by rw [hH, hlo]; exact hS
  have hgo : W P l e R s m args bl mt c H locs 0 0 Q (F0 m 0 ls []) := by
    refine lv_aload_n hx hb dX0_join_0 rfl (lv_at hl 0 rfl) ?_
    refine lv_iload_n hx hb dX0_join_1 rfl (lv_at hl 2 rfl) ?_
    refine xc_wv (As := [.int (nI (X))]) (n := 1) S (cX_measure l D g k p a b ln w pg lf hg hr (by omega)) (lw_V q107 q109 qs5 q21 q110) hdX0_measure (by omega) (by omega) (by decide) (Nat.zero_le _) (Nat.zero_le _) hK hP hS rfl hl.1 (Nat.le_of_ble_eq_true rfl) dX0_join_2 rfl (fun w1 H locs hwF hP hS => ?_)
    have hP : sw_XP D g k p a b ln w1 pg lf H := hP
    refine lv_aload_n hx hb dX0_join_5 rfl (lv_at hl 0 rfl) ?_
    refine xg5 hx hb hts hown hK hP dX0_join_6 ?_
    refine lv_iconst (v := nI 0) hx hb dX0_join_9 (by decide) ?_
    refine lv_iconst (v := nI 0) hx hb dX0_join_10 (by decide) ?_
    refine xs5 hx hb hK hP hg hS (by omega) dX0_join_11 (fun H locs hP hS => ?_)
    refine lv_iconst (v := nI 1) hx hb dX0_join_12 (by decide) ?_
    refine lv_istore_n (lv' := [(3, .int (nI (1))), (0, .ref (g 0)), (1, .int (nI (T))), (2, .int (nI (X)))]) hx hb dX0_join_13 rfl hl (by decide) rfl (fun ls hl => ?_)
    have L14 : ∀ (n i : Nat) (P1 : Nat → Nat), i ≤ 64 → 65 ≤ i + n → (sw_jI a b ln X T i P1) → (1 ≤ i) → ∀ (H : Heap) (locs : List Loc), sw_XP D g k p a b ln w1 P1 lf H → va_S (sw_XA g) s.heap H locs → ∀ (ls : Array Slot), lv_has ls 4 [(0, .ref (g 0)), (1, .int (nI (T))), (2, .int (nI (X))), (3, .int (nI (i)))] → W P l e R s m args bl mt c H locs 0 0 Q (F0 m 14 ls []) := by
      intro n
      induction n with
      | zero => intro i P1 h1 h2; exact absurd h2 (by omega)
      | succ n ih14 =>
        intro i P1 hi14 hn14 hj h1i H locs hP hS ls hl
        refine lv_iload_n hx hb dX0_join_14 rfl (lv_at hl 3 rfl) ?_
        refine lv_bipush (v := nI 64) hx hb dX0_join_15 (by decide) ?_
        refine sr_ge (tgt := 53) hx hb (by omega) (by omega) dX0_join_17 (by decide) (fun c17 => ?_) (fun c17 => ?_)
        · refine lv_aload_n hx hb dX0_join_53 rfl (lv_at hl 0 rfl) ?_
          refine xg5 hx hb hts hown hK hP dX0_join_54 ?_
          refine lv_iload_n hx hb dX0_join_57 rfl (lv_at hl 1 rfl) ?_
          refine xl5 hx hb hK hP (by omega) dX0_join_58 ?_
          exact hret _ _ _ (w1, P1) _ _ dX0_join_59 ⟨P1 T, rfl, (hj T (by omega) (sw_sub_refl T)).2, (hj T (by omega) (sw_sub_refl T)).1⟩ hP hS
        · refine lv_aload_n hx hb dX0_join_20 rfl (lv_at hl 0 rfl) ?_
          refine xg5 hx hb hts hown hK hP dX0_join_21 ?_
          refine lv_iload_n hx hb dX0_join_24 rfl (lv_at hl 3 rfl) ?_
          refine lv_ldc (v := nI 200000) hx hb hown (hts _ q116) dX0_join_25 ?_
          refine xs5 hx hb hK hP hg hS (by omega) dX0_join_27 (fun H locs hP hS => ?_)
          refine lv_iload_n hx hb dX0_join_28 rfl (lv_at hl 3 rfl) ?_
          refine lv_iload_n hx hb dX0_join_29 rfl (lv_at hl 1 rfl) ?_
          refine sr_not hx hb dX0_join_30 dX0_join_31 dX0_join_32 ?_
          refine sr_ne0 (tgt := 47) hx hb (sw_an_lt (by omega)) dX0_join_33 (by decide) (fun c33 => ?_) (fun c33 => ?_)
          · refine lv_iinc (v := nI (i + 1)) (lv' := [(3, .int (nI (i + 1))), (0, .ref (g 0)), (1, .int (nI (T))), (2, .int (nI (X)))]) hx hb dX0_join_47 hl (k := 3) rfl (sn_inc (i)) (by decide) rfl (fun ls hl => ?_)
            refine lv_goto (tgt := 14) hx hb dX0_join_50 (by decide) ?_
            exact ih14 (i + 1) (va_up P1 (i) (200000)) (by omega) (by omega) (sw_jI_n hj (fun z => c33 (sw_an_zero.mpr z))) (by omega) _ _ hP hS ls (lv_sub hl [1, 2, 3, 0] rfl)
          · have hsub : sw_sub i T := sw_an_zero.mp c33
            have hPb1 : ∀ t, t < i → sw_sub t i → va_up P1 i 200000 t ≤ 200000 := fun t h1 h2 => by rw [va_up_ne _ _ (Nat.ne_of_lt h1)]; exact (hj t h1 (sw_sub_trans h2 hsub)).2
            refine lv_aload_n hx hb dX0_join_36 rfl (lv_at hl 0 rfl) ?_
            refine xg5 hx hb hts hown hK hP dX0_join_37 ?_
            refine lv_iload_n hx hb dX0_join_40 rfl (lv_at hl 3 rfl) ?_
            refine lv_aload_n hx hb dX0_join_41 rfl (lv_at hl 0 rfl) ?_
            refine lv_iload_n hx hb dX0_join_42 rfl (lv_at hl 3 rfl) ?_
            refine xc_ro (As := [.int (nI (i))]) (n := 1) S (cX_pairUp l D g k p a b ln w1 (va_up P1 (i) (200000)) lf (by omega) (fun i j hi hj => (hwF i j hi hj).1) hPb1) (lw_V q117 q119 qs7 q21 q120) hdX0_pairUp (by omega) (by omega) (by decide) (Nat.zero_le _) (Nat.zero_le _) hK hP rfl hl.1 (Nat.le_of_ble_eq_true rfl) dX0_join_43 rfl (fun r hq => ?_)
            obtain ⟨v1, rfl, hv1, hv2⟩ := hq
            refine xs5 hx hb hK hP hg hS (by omega) dX0_join_46 (fun H locs hP hS => ?_)
            refine lv_iinc (v := nI (i + 1)) (lv' := [(3, .int (nI (i + 1))), (0, .ref (g 0)), (1, .int (nI (T))), (2, .int (nI (X)))]) hx hb dX0_join_47 hl (k := 3) rfl (sn_inc (i)) (by decide) rfl (fun ls hl => ?_)
            refine lv_goto (tgt := 14) hx hb dX0_join_50 (by decide) ?_
            exact ih14 (i + 1) (va_up (va_up P1 (i) (200000)) (i) (v1)) (by omega) (by omega) (sw_jI_s hj (by omega) (by omega) hsub hwF hv1) (by omega) _ _ hP hS ls (lv_sub hl [1, 2, 3, 0] rfl)
    exact L14 (65) (1) (va_up pg (0) (0)) (by omega) (by omega) (sw_jI_1 (sn_up_at pg 0 0)) (by omega) _ _ hP hS ls (lv_sub hl [1, 2, 3, 0] rfl)
  rw [hH, hlo] at hgo
  exact hgo
theorem hdX0_join : yX0_join.cls = RX0 ∧ yX0_join.cls ≠ "java/lang/invoke/MethodHandle" ∧ yX0_join.cls ≠ "java/lang/invoke/VarHandle" ∧ (parseMethodDescriptor yX0_join.desc).map (fun d => d.parameters.length) = some 2 := by decide +kernel
set_option maxHeartbeats 4000000 in
set_option maxRecDepth 100000 in
theorem cX_extra (l : Launch) (D : va_G) (g : Nat → Nat) (k : Nat → ClassId) (p : Nat) (a b ln w pg lf : Nat → Nat)  (hg : sw_XD g) (hp : p < 1024) (hr : sw_rng a b ln) (hne : ∀ s, s < 10 → p.testBit s = true → a s ≠ b s) : Met l yX0_extra (ws_ yX0_extra cX0_extra 3 (some .int)) (sw_rm 3) (va_Pc [.ref (g 0)] (fun U => sw_XP D g k p a b ln w pg lf U.heap ∧ sw_XK D k U)) (va_Qi (fun r (u : (Nat → Nat) × (Nat → Nat)) => ∃ v, v ≤ 200000 ∧ sw_min a b ln p (sw_od a b p 10) v ∧ r = sw_fv v) (fun (u : (Nat → Nat) × (Nat → Nat)) t => (fun (u : (Nat → Nat) × (Nat → Nat)) (H : Heap) => sw_XP D g k p a b ln u.1 u.2 lf H) u t.heap) (sw_XA g)) 0 0 (sw_XA g) := by
  refine so_wi (own := RX0) (Bw := fun (u : (Nat → Nat) × (Nat → Nat)) (H : Heap) => sw_XP D g k p a b ln u.1 u.2 lf H) (by decide) rfl (Nat.le_of_ble_eq_true rfl) (fun P e R s m args bl mt c Q ls S hR hL hB hl hret => ?_)
  obtain ⟨hP, hK⟩ := hB
  obtain ⟨hx, hb, hml, hown, hts⟩ := id S
  have hl : lv_has ls 3 [(0, .ref (g 0))] := hl
  have hS : va_S (sw_XA g) s.heap s.heap [] := va_S.rf
  obtain ⟨H, hH⟩ : ∃ H, H = s.heap := ⟨_, rfl⟩
  obtain ⟨locs, hlo⟩ : ∃ L : List Loc, L = [] := ⟨_, rfl⟩
  have hP : sw_XP D g k p a b ln w pg lf H := by rw [hH]; exact hP
  have hS : va_S (sw_XA g) s.heap H locs := by rw [hH, hlo]; exact hS
  have hgo : W P l e R s m args bl mt c H locs 0 0 Q (F0 m 0 ls []) := by
    have hT0 := sw_od_lt hr p 10 (Nat.le_refl _)
    refine lv_aload_n hx hb dX0_extra_0 rfl (lv_at hl 0 rfl) ?_
    refine xc_ro (As := []) (n := 0) S (cX_odd l D g k p a b ln w pg lf hp hr hne) (lw_V q102 q79 q80 q21 q81) hdX0_odd (by omega) (by omega) (by decide) (Nat.zero_le _) (Nat.zero_le _) hK hP rfl hl.1 (Nat.le_of_ble_eq_true rfl) dX0_extra_1 rfl (fun r hq => ?_)
    subst hq
    refine lv_istore_n (lv' := [(1, .int (nI (sw_od a b p 10))), (0, .ref (g 0))]) hx hb dX0_extra_4 rfl hl (by decide) rfl (fun ls hl => ?_)
    refine lv_aload_n hx hb dX0_extra_5 rfl (lv_at hl 1 rfl) ?_
    refine lv_iload_n hx hb dX0_extra_6 rfl (lv_at hl 0 rfl) ?_
    refine lv_aload_n hx hb dX0_extra_7 rfl (lv_at hl 1 rfl) ?_
    refine xg0 hx hb hts hown hK hP dX0_extra_8 ?_
    refine xc_wi (As := [.int (nI (sw_od a b p 10)), .int (nI (p))]) (n := 2) S (cX_join l D g k p a b ln w pg lf hg hr hT0 hp) (lw_V q103 q105 qs4 q21 q106) hdX0_join (by omega) (by omega) (by decide) (Nat.zero_le _) (Nat.zero_le _) hK hP hS rfl hl.1 (Nat.le_of_ble_eq_true rfl) dX0_extra_11 rfl (fun r u1 H locs hq hP hS => ?_)
    have hP : sw_XP D g k p a b ln (u1.1) (u1.2) lf H := hP
    obtain ⟨v1, rfl, hv1, hv2⟩ := hq
    refine lv_istore_n (lv' := [(2, .int (nI (v1))), (1, .int (nI (sw_od a b p 10))), (0, .ref (g 0))]) hx hb dX0_extra_14 rfl hl (by decide) rfl (fun ls hl => ?_)
    refine lv_iload_n hx hb dX0_extra_15 rfl (lv_at hl 0 rfl) ?_
    refine lv_ldc (v := nI 100000) hx hb hown (hts _ q111) dX0_extra_16 ?_
    refine sr_ge (tgt := 25) hx hb (by omega) (by omega) dX0_extra_18 (by decide) (fun c18 => ?_) (fun c18 => ?_)
    · refine lv_iconst (v := -1) hx hb dX0_extra_25 (by decide) ?_
      exact hret _ _ _ u1 _ _ dX0_extra_26 ⟨v1, hv1, hv2, (sw_fv_f c18).symm⟩ hP hS
    · refine lv_iload_n hx hb dX0_extra_21 rfl (lv_at hl 0 rfl) ?_
      refine lv_goto (tgt := 26) hx hb dX0_extra_22 (by decide) ?_
      exact hret _ _ _ u1 _ _ dX0_extra_26 ⟨v1, hv1, hv2, (sw_fv_t c18).symm⟩ hP hS
  rw [hH, hlo] at hgo
  exact hgo
theorem hdX0_extra : yX0_extra.cls = RX0 ∧ yX0_extra.cls ≠ "java/lang/invoke/MethodHandle" ∧ yX0_extra.cls ≠ "java/lang/invoke/VarHandle" ∧ (parseMethodDescriptor yX0_extra.desc).map (fun d => d.parameters.length) = some 0 := by decide +kernel
set_option maxHeartbeats 4000000 in
set_option maxRecDepth 100000 in
theorem cX_bestSet (l : Launch) (D : va_G) (g : Nat → Nat) (k : Nat → ClassId) (p : Nat) (a b ln w pg lf : Nat → Nat)  (hg : sw_XD g) (hp : p < 1024) (hr : sw_rng a b ln) (hne : ∀ s, s < 10 → p.testBit s = true → a s ≠ b s) : Met l yX0_bestSet (ws_ yX0_bestSet cX0_bestSet 7 (some .int)) (sw_rm 3) (va_Pc [.ref (g 0)] (fun U => sw_XP D g k p a b ln w pg lf U.heap ∧ sw_XK D k U)) (va_Qi (fun r (u : (Nat → Nat) × (Nat → Nat)) => ∃ B, r = nI B ∧ sw_best a b ln p B) (fun (u : (Nat → Nat) × (Nat → Nat)) t => (fun (u : (Nat → Nat) × (Nat → Nat)) (H : Heap) => sw_XP D g k p a b ln u.1 u.2 lf H) u t.heap) (sw_XA g)) 0 0 (sw_XA g) := by
  refine so_wi (own := RX0) (Bw := fun (u : (Nat → Nat) × (Nat → Nat)) (H : Heap) => sw_XP D g k p a b ln u.1 u.2 lf H) (by decide) rfl (Nat.le_of_ble_eq_true rfl) (fun P e R s m args bl mt c Q ls S hR hL hB hl hret => ?_)
  obtain ⟨hP, hK⟩ := hB
  obtain ⟨hx, hb, hml, hown, hts⟩ := id S
  have hl : lv_has ls 7 [(0, .ref (g 0))] := hl
  have hS : va_S (sw_XA g) s.heap s.heap [] := va_S.rf
  obtain ⟨H, hH⟩ : ∃ H, H = s.heap := ⟨_, rfl⟩
  obtain ⟨locs, hlo⟩ : ∃ L : List Loc, L = [] := ⟨_, rfl⟩
  have hP : sw_XP D g k p a b ln w pg lf H := by rw [hH]; exact hP
  have hS : va_S (sw_XA g) s.heap H locs := by rw [hH, hlo]; exact hS
  have hgo : W P l e R s m args bl mt c H locs 0 0 Q (F0 m 0 ls []) := by
    have hT0 := sw_od_lt hr p 10 (Nat.le_refl _)
    refine lv_aload_n hx hb dX0_bestSet_0 rfl (lv_at hl 0 rfl) ?_
    refine xc_ro (As := []) (n := 0) S (cX_odd l D g k p a b ln w pg lf hp hr hne) (lw_V q102 q79 q80 q21 q81) hdX0_odd (by omega) (by omega) (by decide) (Nat.zero_le _) (Nat.zero_le _) hK hP rfl hl.1 (Nat.le_of_ble_eq_true rfl) dX0_bestSet_1 rfl (fun r hq => ?_)
    subst hq
    refine lv_istore_n (lv' := [(1, .int (nI (sw_od a b p 10))), (0, .ref (g 0))]) hx hb dX0_bestSet_4 rfl hl (by decide) rfl (fun ls hl => ?_)
    refine lv_aload_n hx hb dX0_bestSet_5 rfl (lv_at hl 1 rfl) ?_
    refine lv_iload_n hx hb dX0_bestSet_6 rfl (lv_at hl 0 rfl) ?_
    refine lv_aload_n hx hb dX0_bestSet_7 rfl (lv_at hl 1 rfl) ?_
    refine xg0 hx hb hts hown hK hP dX0_bestSet_8 ?_
    refine xc_wi (As := [.int (nI (sw_od a b p 10)), .int (nI (p))]) (n := 2) S (cX_join l D g k p a b ln w pg lf hg hr hT0 hp) (lw_V q103 q105 qs4 q21 q106) hdX0_join (by omega) (by omega) (by decide) (Nat.zero_le _) (Nat.zero_le _) hK hP hS rfl hl.1 (Nat.le_of_ble_eq_true rfl) dX0_bestSet_11 rfl (fun r u1 H locs hq hP hS => ?_)
    have hP : sw_XP D g k p a b ln (u1.1) (u1.2) lf H := hP
    obtain ⟨v1, rfl, hv1, hv2⟩ := hq
    refine lv_istore_n (lv' := [(2, .int (nI (v1))), (1, .int (nI (sw_od a b p 10))), (0, .ref (g 0))]) hx hb dX0_bestSet_14 rfl hl (by decide) rfl (fun ls hl => ?_)
    refine lv_iload_n hx hb dX0_bestSet_15 rfl (lv_at hl 0 rfl) ?_
    refine lv_ldc (v := nI 100000) hx hb hown (hts _ q111) dX0_bestSet_16 ?_
    refine sr_lt (tgt := 23) hx hb (by omega) (by omega) dX0_bestSet_18 (by decide) (fun c18 => ?_) (fun c18 => by exfalso; have := sw_min_p hr hv2; omega)
    refine lv_aload_n hx hb dX0_bestSet_23 rfl (lv_at hl 2 rfl) ?_
    refine xg0 hx hb hts hown hK hP dX0_bestSet_24 ?_
    refine lv_istore_n (lv' := [(3, .int (nI (p))), (2, .int (nI (v1))), (1, .int (nI (sw_od a b p 10))), (0, .ref (g 0))]) hx hb dX0_bestSet_27 rfl hl (by decide) rfl (fun ls hl => ?_)
    refine lv_iconst (v := nI 0) hx hb dX0_bestSet_28 (by decide) ?_
    refine lv_istore (lv' := [(4, .int (nI (0))), (3, .int (nI (p))), (2, .int (nI (v1))), (1, .int (nI (sw_od a b p 10))), (0, .ref (g 0))]) hx hb dX0_bestSet_29 hl (by decide) rfl (fun ls hl => ?_)
    refine lv_iconst (v := nI 0) hx hb dX0_bestSet_31 (by decide) ?_
    refine lv_istore (lv' := [(5, .int (nI (0))), (4, .int (nI (0))), (3, .int (nI (p))), (2, .int (nI (v1))), (1, .int (nI (sw_od a b p 10))), (0, .ref (g 0))]) hx hb dX0_bestSet_32 hl (by decide) rfl (fun ls hl => ?_)
    have L34 : ∀ (n i : Nat) (wt lt op ch : Nat) (w2 P2 : Nat → Nat), i ≤ 10 → 11 ≤ i + n → (sw_gi a b ln p i wt lt op ch) → ∀ (H : Heap) (locs : List Loc), sw_XP D g k p a b ln w2 P2 lf H → va_S (sw_XA g) s.heap H locs → ∀ (ls : Array Slot), lv_has ls 7 [(0, .ref (g 0)), (1, .int (nI (wt))), (2, .int (nI (lt))), (3, .int (nI (op))), (4, .int (nI (ch))), (5, .int (nI (i)))] → W P l e R s m args bl mt c H locs 0 0 Q (F0 m 34 ls []) := by
      intro n
      induction n with
      | zero => intro i wt lt op ch w2 P2 h1 h2; exact absurd h2 (by omega)
      | succ n ih34 =>
        intro i wt lt op ch w2 P2 hi34 hn34 hgi H locs hP hS ls hl
        refine lv_iload hx hb dX0_bestSet_34 (lv_at hl 5 rfl) ?_
        refine lv_bipush (v := nI 10) hx hb dX0_bestSet_36 (by decide) ?_
        refine sr_ge (tgt := 107) hx hb (by omega) (by omega) dX0_bestSet_38 (by decide) (fun c38 => ?_) (fun c38 => ?_)
        · refine lv_iload hx hb dX0_bestSet_107 (lv_at hl 4 rfl) ?_
          exact hret _ _ _ (w2, P2) _ _ dX0_bestSet_109 ⟨ch, rfl, sw_gi_e hp (ek_v (P := fun z => sw_gi a b ln p z wt lt op ch) (show 10 = i by omega) hgi)⟩ hP hS
        · have hgl := sw_gi_lt hr hp hgi
          refine lv_aload_n hx hb dX0_bestSet_41 rfl (lv_at hl 0 rfl) ?_
          refine lv_iload hx hb dX0_bestSet_42 (lv_at hl 5 rfl) ?_
          refine xc_ro (As := [.int (nI (i))]) (n := 1) S (cX_has l D g k p a b ln w2 P2 lf (nI i) hp) (lw_V q62 q64 qs0 q21 q65) hdX0_has (by omega) (by omega) (by decide) (Nat.zero_le _) (Nat.zero_le _) hK hP rfl hl.1 (Nat.le_of_ble_eq_true rfl) dX0_bestSet_44 rfl (fun r hq => ?_)
          rw [sn_has_nI p (by omega)] at hq
          subst hq
          refine sr_bf (tgt := 101) hx hb dX0_bestSet_47 (by decide) (fun c47 => ?_) (fun c47 => ?_)
          · refine lv_iinc (v := nI (i + 1)) (lv' := [(5, .int (nI (i + 1))), (0, .ref (g 0)), (1, .int (nI (wt))), (2, .int (nI (lt))), (3, .int (nI (op))), (4, .int (nI (ch)))]) hx hb dX0_bestSet_101 hl (k := 5) rfl (sn_inc (i)) (by decide) rfl (fun ls hl => ?_)
            refine lv_goto (tgt := 34) hx hb dX0_bestSet_104 (by decide) ?_
            exact ih34 (i + 1) (wt) (lt) (op) (ch) (w2) (P2) (by omega) (by omega) (sw_gi_n hgi c47) _ _ hP hS ls (lv_sub hl [1, 2, 3, 4, 5, 0] rfl)
          · refine lv_iload_n hx hb dX0_bestSet_50 rfl (lv_at hl 3 rfl) ?_
            refine lv_iconst (v := nI 1) hx hb dX0_bestSet_51 (by decide) ?_
            refine lv_iload hx hb dX0_bestSet_52 (lv_at hl 5 rfl) ?_
            refine sr_shl hx hb (by omega) dX0_bestSet_54 ?_
            refine sr_not hx hb dX0_bestSet_55 dX0_bestSet_56 dX0_bestSet_57 ?_
            refine lv_istore_n (lv' := [(3, .int (nI (sw_an (op) (2 ^ (i))))), (0, .ref (g 0)), (1, .int (nI (wt))), (2, .int (nI (lt))), (4, .int (nI (ch))), (5, .int (nI (i)))]) hx hb dX0_bestSet_58 rfl hl (by decide) rfl (fun ls hl => ?_)
            refine lv_aload_n hx hb dX0_bestSet_59 rfl (lv_at hl 1 rfl) ?_
            refine lv_iload_n hx hb dX0_bestSet_60 rfl (lv_at hl 2 rfl) ?_
            refine lv_iload_n hx hb dX0_bestSet_61 rfl (lv_at hl 0 rfl) ?_
            refine xc_wi (As := [.int (nI (wt)), .int (nI (sw_an (op) (2 ^ (i))))]) (n := 2) S (cX_join l D g k p a b ln w2 P2 lf hg hr hgl.2.1 (sw_an_lt hgl.1)) (lw_V q103 q105 qs4 q21 q106) hdX0_join (by omega) (by omega) (by decide) (Nat.zero_le _) (Nat.zero_le _) hK hP hS rfl hl.1 (Nat.le_of_ble_eq_true rfl) dX0_bestSet_62 rfl (fun r u1 H locs hq hP hS => ?_)
            have hP : sw_XP D g k p a b ln (u1.1) (u1.2) lf H := hP
            obtain ⟨v1, rfl, hv1, hv2⟩ := hq
            refine lv_istore (lv' := [(6, .int (nI (v1))), (3, .int (nI (sw_an (op) (2 ^ (i))))), (0, .ref (g 0)), (1, .int (nI (wt))), (2, .int (nI (lt))), (4, .int (nI (ch))), (5, .int (nI (i)))]) hx hb dX0_bestSet_65 hl (by decide) rfl (fun ls hl => ?_)
            refine lv_iload hx hb dX0_bestSet_67 (lv_at hl 0 rfl) ?_
            refine lv_iload_n hx hb dX0_bestSet_69 rfl (lv_at hl 4 rfl) ?_
            refine sr_eq (tgt := 101) hx hb (by omega) (by omega) dX0_bestSet_70 (by decide) (fun c70 => ?_) (fun c70 => ?_)
            · refine lv_iinc (v := nI (i + 1)) (lv' := [(5, .int (nI (i + 1))), (6, .int (nI (v1))), (3, .int (nI (sw_an (op) (2 ^ (i))))), (0, .ref (g 0)), (1, .int (nI (wt))), (2, .int (nI (lt))), (4, .int (nI (ch)))]) hx hb dX0_bestSet_101 hl (k := 6) rfl (sn_inc (i)) (by decide) rfl (fun ls hl => ?_)
              refine lv_goto (tgt := 34) hx hb dX0_bestSet_104 (by decide) ?_
              exact ih34 (i + 1) (wt) (lt) (sw_an (op) (2 ^ (i))) (ch) (u1.1) (u1.2) (by omega) (by omega) (sw_gi_keep hgi (c70 ▸ hv2)) _ _ hP hS ls (lv_sub hl [3, 4, 5, 2, 6, 0] rfl)
            · refine lv_iload hx hb dX0_bestSet_73 (lv_at hl 5 rfl) ?_
              refine lv_iconst (v := nI 1) hx hb dX0_bestSet_75 (by decide) ?_
              refine lv_iload hx hb dX0_bestSet_76 (lv_at hl 6 rfl) ?_
              refine sr_shl hx hb (by omega) dX0_bestSet_78 ?_
              refine sr_or hx hb dX0_bestSet_79 ?_
              refine lv_istore (lv' := [(4, .int (nI ((ch) ||| (2 ^ (i))))), (6, .int (nI (v1))), (3, .int (nI (sw_an (op) (2 ^ (i))))), (0, .ref (g 0)), (1, .int (nI (wt))), (2, .int (nI (lt))), (5, .int (nI (i)))]) hx hb dX0_bestSet_80 hl (by decide) rfl (fun ls hl => ?_)
              refine lv_iload_n hx hb dX0_bestSet_82 rfl (lv_at hl 4 rfl) ?_
              refine lv_aload_n hx hb dX0_bestSet_83 rfl (lv_at hl 3 rfl) ?_
              refine lv_iload hx hb dX0_bestSet_84 (lv_at hl 6 rfl) ?_
              refine xc_ro (As := [.int (nI (i))]) (n := 1) S (cX_endsOf l D g k p a b ln (u1.1) (u1.2) lf hr (by omega)) (lw_V q82 q84 qs1 q21 q85) hdX0_endsOf (by omega) (by omega) (by decide) (Nat.zero_le _) (Nat.zero_le _) hK hP rfl hl.1 (Nat.le_of_ble_eq_true rfl) dX0_bestSet_86 rfl (fun r hq => ?_)
              subst hq
              refine sr_xor hx hb dX0_bestSet_89 ?_
              refine lv_istore_n (lv' := [(1, .int (nI ((wt) ^^^ (sw_E a b i)))), (4, .int (nI ((ch) ||| (2 ^ (i))))), (6, .int (nI (v1))), (3, .int (nI (sw_an (op) (2 ^ (i))))), (0, .ref (g 0)), (2, .int (nI (lt))), (5, .int (nI (i)))]) hx hb dX0_bestSet_90 rfl hl (by decide) rfl (fun ls hl => ?_)
              refine lv_iload_n hx hb dX0_bestSet_91 rfl (lv_at hl 5 rfl) ?_
              refine lv_aload_n hx hb dX0_bestSet_92 rfl (lv_at hl 4 rfl) ?_
              refine xg3 hx hb hts hown hK hP dX0_bestSet_93 ?_
              refine lv_iload hx hb dX0_bestSet_96 (lv_at hl 6 rfl) ?_
              refine xl3 hx hb hK hP (by omega) dX0_bestSet_98 ?_
              refine sr_sub hx hb (sw_gi_take (by omega) c47 hgi hv2 c70).1 dX0_bestSet_99 ?_
              refine lv_istore_n (lv' := [(2, .int (nI ((lt) - (ln (i))))), (1, .int (nI ((wt) ^^^ (sw_E a b i)))), (4, .int (nI ((ch) ||| (2 ^ (i))))), (6, .int (nI (v1))), (3, .int (nI (sw_an (op) (2 ^ (i))))), (0, .ref (g 0)), (5, .int (nI (i)))]) hx hb dX0_bestSet_100 rfl hl (by decide) rfl (fun ls hl => ?_)
              refine lv_iinc (v := nI (i + 1)) (lv' := [(5, .int (nI (i + 1))), (2, .int (nI ((lt) - (ln (i))))), (1, .int (nI ((wt) ^^^ (sw_E a b i)))), (4, .int (nI ((ch) ||| (2 ^ (i))))), (6, .int (nI (v1))), (3, .int (nI (sw_an (op) (2 ^ (i))))), (0, .ref (g 0))]) hx hb dX0_bestSet_101 hl (k := 6) rfl (sn_inc (i)) (by decide) rfl (fun ls hl => ?_)
              refine lv_goto (tgt := 34) hx hb dX0_bestSet_104 (by decide) ?_
              exact ih34 (i + 1) ((wt) ^^^ (sw_E a b i)) ((lt) - (ln (i))) (sw_an (op) (2 ^ (i))) ((ch) ||| (2 ^ (i))) (u1.1) (u1.2) (by omega) (by omega) (by rw [sw_E_x (hne i (by omega) c47)]; exact (sw_gi_take (by omega) c47 hgi hv2 c70).2) _ _ hP hS ls (lv_sub hl [6, 2, 1, 5, 3, 0] rfl)
    exact L34 (11) (0) (sw_od a b p 10) (v1) (p) (0) (u1.1) (u1.2) (by omega) (by omega) (sw_gi_0 hv2 c18) _ _ hP hS ls (lv_sub hl [5, 4, 3, 2, 1, 0] rfl)
  rw [hH, hlo] at hgo
  exact hgo
theorem hdX0_bestSet : yX0_bestSet.cls = RX0 ∧ yX0_bestSet.cls ≠ "java/lang/invoke/MethodHandle" ∧ yX0_bestSet.cls ≠ "java/lang/invoke/VarHandle" ∧ (parseMethodDescriptor yX0_bestSet.desc).map (fun d => d.parameters.length) = some 0 := by decide +kernel
set_option maxHeartbeats 4000000 in
set_option maxRecDepth 100000 in
theorem cX_extraWith (l : Launch) (D : va_G) (g : Nat → Nat) (k : Nat → ClassId) (p : Nat) (a b ln w pg lf : Nat → Nat) (x : Int32) (hg : sw_XD g) (hp : p < 1024) (hr : sw_rng a b ln) (hne : ∀ s, s < 10 → p.testBit s = true → a s ≠ b s) : Met l yX0_extraWith (ws_ yX0_extraWith cX0_extraWith 4 (some .int)) (sw_rm 3) (va_Pc [.ref (g 0), .int (x)] (fun U => sw_XP D g k p a b ln w pg lf U.heap ∧ sw_XK D k U)) (va_Qi (fun r (u : (Nat → Nat) × (Nat → Nat)) => (sw_has p x = false ∧ r = -1) ∨ ∃ s v, s < 10 ∧ x = nI s ∧ p.testBit s = true ∧ v ≤ 200000 ∧ sw_min a b ln (sw_an p (2 ^ s)) (sw_od a b p 10 ^^^ (2 ^ a s ^^^ 2 ^ b s)) v ∧ r = if v < 100000 then nI (v + ln s) else -1) (fun (u : (Nat → Nat) × (Nat → Nat)) t => (fun (u : (Nat → Nat) × (Nat → Nat)) (H : Heap) => sw_XP D g k p a b ln u.1 u.2 lf H) u t.heap) (sw_XA g)) 0 0 (sw_XA g) := by
  refine so_wi (own := RX0) (Bw := fun (u : (Nat → Nat) × (Nat → Nat)) (H : Heap) => sw_XP D g k p a b ln u.1 u.2 lf H) (by decide) rfl (Nat.le_of_ble_eq_true rfl) (fun P e R s m args bl mt c Q ls S hR hL hB hl hret => ?_)
  obtain ⟨hP, hK⟩ := hB
  obtain ⟨hx, hb, hml, hown, hts⟩ := id S
  have hl : lv_has ls 4 [(0, .ref (g 0)), (1, .int (x))] := hl
  have hS : va_S (sw_XA g) s.heap s.heap [] := va_S.rf
  obtain ⟨H, hH⟩ : ∃ H, H = s.heap := ⟨_, rfl⟩
  obtain ⟨locs, hlo⟩ : ∃ L : List Loc, L = [] := ⟨_, rfl⟩
  have hP : sw_XP D g k p a b ln w pg lf H := by rw [hH]; exact hP
  have hS : va_S (sw_XA g) s.heap H locs := by rw [hH, hlo]; exact hS
  have hgo : W P l e R s m args bl mt c H locs 0 0 Q (F0 m 0 ls []) := by
    have hT0 := sw_od_lt hr p 10 (Nat.le_refl _)
    refine lv_aload_n hx hb dX0_extraWith_0 rfl (lv_at hl 0 rfl) ?_
    refine lv_iload_n hx hb dX0_extraWith_1 rfl (lv_at hl 1 rfl) ?_
    refine xc_ro (As := [.int (x)]) (n := 1) S (cX_has l D g k p a b ln w pg lf x hp) (lw_V q62 q64 qs0 q21 q65) hdX0_has (by omega) (by omega) (by decide) (Nat.zero_le _) (Nat.zero_le _) hK hP rfl hl.1 (Nat.le_of_ble_eq_true rfl) dX0_extraWith_2 rfl (fun r hq => ?_)
    subst hq
    refine sr_bt (tgt := 10) hx hb dX0_extraWith_5 (by decide) (fun c5 => ?_) (fun c5 => ?_)
    · obtain ⟨s0, hs0, rfl, hps⟩ := sn_has_t c5
      refine lv_aload_n hx hb dX0_extraWith_10 rfl (lv_at hl 0 rfl) ?_
      refine xc_ro (As := []) (n := 0) S (cX_odd l D g k p a b ln w pg lf hp hr hne) (lw_V q102 q79 q80 q21 q81) hdX0_odd (by omega) (by omega) (by decide) (Nat.zero_le _) (Nat.zero_le _) hK hP rfl hl.1 (Nat.le_of_ble_eq_true rfl) dX0_extraWith_11 rfl (fun r hq => ?_)
      subst hq
      refine lv_aload_n hx hb dX0_extraWith_14 rfl (lv_at hl 0 rfl) ?_
      refine lv_iload_n hx hb dX0_extraWith_15 rfl (lv_at hl 1 rfl) ?_
      refine xc_ro (As := [.int (nI (s0))]) (n := 1) S (cX_endsOf l D g k p a b ln w pg lf hr (by omega)) (lw_V q82 q84 qs1 q21 q85) hdX0_endsOf (by omega) (by omega) (by decide) (Nat.zero_le _) (Nat.zero_le _) hK hP rfl hl.1 (Nat.le_of_ble_eq_true rfl) dX0_extraWith_16 rfl (fun r hq => ?_)
      subst hq
      refine sr_xor hx hb dX0_extraWith_19 ?_
      refine lv_istore_n (lv' := [(2, .int (nI ((sw_od a b p 10) ^^^ (sw_E a b s0)))), (0, .ref (g 0)), (1, .int (nI (s0)))]) hx hb dX0_extraWith_20 rfl hl (by decide) rfl (fun ls hl => ?_)
      refine lv_aload_n hx hb dX0_extraWith_21 rfl (lv_at hl 1 rfl) ?_
      refine lv_iload_n hx hb dX0_extraWith_22 rfl (lv_at hl 0 rfl) ?_
      refine lv_aload_n hx hb dX0_extraWith_23 rfl (lv_at hl 1 rfl) ?_
      refine xg0 hx hb hts hown hK hP dX0_extraWith_24 ?_
      refine lv_iconst (v := nI 1) hx hb dX0_extraWith_27 (by decide) ?_
      refine lv_iload_n hx hb dX0_extraWith_28 rfl (lv_at hl 2 rfl) ?_
      refine sr_shl hx hb (by omega) dX0_extraWith_29 ?_
      refine sr_not hx hb dX0_extraWith_30 dX0_extraWith_31 dX0_extraWith_32 ?_
      rw [sw_E_x (hne s0 hs0 hps)] at hl ⊢
      refine xc_wi (As := [.int (nI ((sw_od a b p 10) ^^^ ((2 ^ a s0 ^^^ 2 ^ b s0)))), .int (nI (sw_an (p) (2 ^ (s0))))]) (n := 2) S (cX_join l D g k p a b ln w pg lf hg hr (Nat.xor_lt_two_pow (n := 6) hT0 (Nat.xor_lt_two_pow (n := 6) (sw_p64 (hr s0 hs0).1) (sw_p64 (hr s0 hs0).2.1))) (sw_an_lt hp)) (lw_V q103 q105 qs4 q21 q106) hdX0_join (by omega) (by omega) (by decide) (Nat.zero_le _) (Nat.zero_le _) hK hP hS rfl hl.1 (Nat.le_of_ble_eq_true rfl) dX0_extraWith_33 rfl (fun r u1 H locs hq hP hS => ?_)
      have hP : sw_XP D g k p a b ln (u1.1) (u1.2) lf H := hP
      obtain ⟨v1, rfl, hv1, hv2⟩ := hq
      refine lv_istore_n (lv' := [(3, .int (nI (v1))), (2, .int (nI ((sw_od a b p 10) ^^^ ((2 ^ a s0 ^^^ 2 ^ b s0))))), (0, .ref (g 0)), (1, .int (nI (s0)))]) hx hb dX0_extraWith_36 rfl hl (by decide) rfl (fun ls hl => ?_)
      refine lv_iload_n hx hb dX0_extraWith_37 rfl (lv_at hl 0 rfl) ?_
      refine lv_ldc (v := nI 100000) hx hb hown (hts _ q111) dX0_extraWith_38 ?_
      refine sr_ge (tgt := 54) hx hb (by omega) (by omega) dX0_extraWith_40 (by decide) (fun c40 => ?_) (fun c40 => ?_)
      · refine lv_iconst (v := -1) hx hb dX0_extraWith_54 (by decide) ?_
        exact hret _ _ _ u1 _ _ dX0_extraWith_55 (Or.inr ⟨s0, v1, hs0, rfl, hps, hv1, hv2, (if_neg (by omega)).symm⟩) hP hS
      · refine lv_iload_n hx hb dX0_extraWith_43 rfl (lv_at hl 0 rfl) ?_
        refine lv_aload_n hx hb dX0_extraWith_44 rfl (lv_at hl 2 rfl) ?_
        refine xg3 hx hb hts hown hK hP dX0_extraWith_45 ?_
        refine lv_iload_n hx hb dX0_extraWith_48 rfl (lv_at hl 3 rfl) ?_
        refine xl3 hx hb hK hP (by omega) dX0_extraWith_49 ?_
        refine sr_add hx hb dX0_extraWith_50 ?_
        refine lv_goto (tgt := 55) hx hb dX0_extraWith_51 (by decide) ?_
        exact hret _ _ _ u1 _ _ dX0_extraWith_55 (Or.inr ⟨s0, v1, hs0, rfl, hps, hv1, hv2, (if_pos c40).symm⟩) hP hS
    · refine lv_iconst (v := -1) hx hb dX0_extraWith_8 (by decide) ?_
      exact hret _ _ _ (w, pg) _ _ dX0_extraWith_9 (Or.inl ⟨c5, rfl⟩) hP hS
  rw [hH, hlo] at hgo
  exact hgo
theorem hdX0_extraWith : yX0_extraWith.cls = RX0 ∧ yX0_extraWith.cls ≠ "java/lang/invoke/MethodHandle" ∧ yX0_extraWith.cls ≠ "java/lang/invoke/VarHandle" ∧ (parseMethodDescriptor yX0_extraWith.desc).map (fun d => d.parameters.length) = some 1 := by decide +kernel
set_option maxHeartbeats 4000000 in
set_option maxRecDepth 100000 in
theorem cX_extraWithout (l : Launch) (D : va_G) (g : Nat → Nat) (k : Nat → ClassId) (p : Nat) (a b ln w pg lf : Nat → Nat) (x : Int32) (hg : sw_XD g) (hp : p < 1024) (hr : sw_rng a b ln) (hne : ∀ s, s < 10 → p.testBit s = true → a s ≠ b s) : Met l yX0_extraWithout (ws_ yX0_extraWithout cX0_extraWithout 4 (some .int)) (sw_rm 3) (va_Pc [.ref (g 0), .int (x)] (fun U => sw_XP D g k p a b ln w pg lf U.heap ∧ sw_XK D k U)) (va_Qi (fun r (u : (Nat → Nat) × (Nat → Nat)) => (sw_has p x = false ∧ r = -1) ∨ ∃ s v, s < 10 ∧ x = nI s ∧ p.testBit s = true ∧ v ≤ 200000 ∧ sw_min a b ln (sw_an p (2 ^ s)) (sw_od a b p 10) v ∧ r = if v < 100000 then nI v else -1) (fun (u : (Nat → Nat) × (Nat → Nat)) t => (fun (u : (Nat → Nat) × (Nat → Nat)) (H : Heap) => sw_XP D g k p a b ln u.1 u.2 lf H) u t.heap) (sw_XA g)) 0 0 (sw_XA g) := by
  refine so_wi (own := RX0) (Bw := fun (u : (Nat → Nat) × (Nat → Nat)) (H : Heap) => sw_XP D g k p a b ln u.1 u.2 lf H) (by decide) rfl (Nat.le_of_ble_eq_true rfl) (fun P e R s m args bl mt c Q ls S hR hL hB hl hret => ?_)
  obtain ⟨hP, hK⟩ := hB
  obtain ⟨hx, hb, hml, hown, hts⟩ := id S
  have hl : lv_has ls 4 [(0, .ref (g 0)), (1, .int (x))] := hl
  have hS : va_S (sw_XA g) s.heap s.heap [] := va_S.rf
  obtain ⟨H, hH⟩ : ∃ H, H = s.heap := ⟨_, rfl⟩
  obtain ⟨locs, hlo⟩ : ∃ L : List Loc, L = [] := ⟨_, rfl⟩
  have hP : sw_XP D g k p a b ln w pg lf H := by rw [hH]; exact hP
  have hS : va_S (sw_XA g) s.heap H locs := by rw [hH, hlo]; exact hS
  have hgo : W P l e R s m args bl mt c H locs 0 0 Q (F0 m 0 ls []) := by
    have hT0 := sw_od_lt hr p 10 (Nat.le_refl _)
    refine lv_aload_n hx hb dX0_extraWithout_0 rfl (lv_at hl 0 rfl) ?_
    refine lv_iload_n hx hb dX0_extraWithout_1 rfl (lv_at hl 1 rfl) ?_
    refine xc_ro (As := [.int (x)]) (n := 1) S (cX_has l D g k p a b ln w pg lf x hp) (lw_V q62 q64 qs0 q21 q65) hdX0_has (by omega) (by omega) (by decide) (Nat.zero_le _) (Nat.zero_le _) hK hP rfl hl.1 (Nat.le_of_ble_eq_true rfl) dX0_extraWithout_2 rfl (fun r hq => ?_)
    subst hq
    refine sr_bt (tgt := 10) hx hb dX0_extraWithout_5 (by decide) (fun c5 => ?_) (fun c5 => ?_)
    · obtain ⟨s0, hs0, rfl, hps⟩ := sn_has_t c5
      refine lv_aload_n hx hb dX0_extraWithout_10 rfl (lv_at hl 0 rfl) ?_
      refine xc_ro (As := []) (n := 0) S (cX_odd l D g k p a b ln w pg lf hp hr hne) (lw_V q102 q79 q80 q21 q81) hdX0_odd (by omega) (by omega) (by decide) (Nat.zero_le _) (Nat.zero_le _) hK hP rfl hl.1 (Nat.le_of_ble_eq_true rfl) dX0_extraWithout_11 rfl (fun r hq => ?_)
      subst hq
      refine lv_istore_n (lv' := [(2, .int (nI (sw_od a b p 10))), (0, .ref (g 0)), (1, .int (nI (s0)))]) hx hb dX0_extraWithout_14 rfl hl (by decide) rfl (fun ls hl => ?_)
      refine lv_aload_n hx hb dX0_extraWithout_15 rfl (lv_at hl 1 rfl) ?_
      refine lv_iload_n hx hb dX0_extraWithout_16 rfl (lv_at hl 0 rfl) ?_
      refine lv_aload_n hx hb dX0_extraWithout_17 rfl (lv_at hl 1 rfl) ?_
      refine xg0 hx hb hts hown hK hP dX0_extraWithout_18 ?_
      refine lv_iconst (v := nI 1) hx hb dX0_extraWithout_21 (by decide) ?_
      refine lv_iload_n hx hb dX0_extraWithout_22 rfl (lv_at hl 2 rfl) ?_
      refine sr_shl hx hb (by omega) dX0_extraWithout_23 ?_
      refine sr_not hx hb dX0_extraWithout_24 dX0_extraWithout_25 dX0_extraWithout_26 ?_
      refine xc_wi (As := [.int (nI (sw_od a b p 10)), .int (nI (sw_an (p) (2 ^ (s0))))]) (n := 2) S (cX_join l D g k p a b ln w pg lf hg hr hT0 (sw_an_lt hp)) (lw_V q103 q105 qs4 q21 q106) hdX0_join (by omega) (by omega) (by decide) (Nat.zero_le _) (Nat.zero_le _) hK hP hS rfl hl.1 (Nat.le_of_ble_eq_true rfl) dX0_extraWithout_27 rfl (fun r u1 H locs hq hP hS => ?_)
      have hP : sw_XP D g k p a b ln (u1.1) (u1.2) lf H := hP
      obtain ⟨v1, rfl, hv1, hv2⟩ := hq
      refine lv_istore_n (lv' := [(3, .int (nI (v1))), (2, .int (nI (sw_od a b p 10))), (0, .ref (g 0)), (1, .int (nI (s0)))]) hx hb dX0_extraWithout_30 rfl hl (by decide) rfl (fun ls hl => ?_)
      refine lv_iload_n hx hb dX0_extraWithout_31 rfl (lv_at hl 0 rfl) ?_
      refine lv_ldc (v := nI 100000) hx hb hown (hts _ q111) dX0_extraWithout_32 ?_
      refine sr_ge (tgt := 41) hx hb (by omega) (by omega) dX0_extraWithout_34 (by decide) (fun c34 => ?_) (fun c34 => ?_)
      · refine lv_iconst (v := -1) hx hb dX0_extraWithout_41 (by decide) ?_
        exact hret _ _ _ u1 _ _ dX0_extraWithout_42 (Or.inr ⟨s0, v1, hs0, rfl, hps, hv1, hv2, (if_neg (by omega)).symm⟩) hP hS
      · refine lv_iload_n hx hb dX0_extraWithout_37 rfl (lv_at hl 0 rfl) ?_
        refine lv_goto (tgt := 42) hx hb dX0_extraWithout_38 (by decide) ?_
        exact hret _ _ _ u1 _ _ dX0_extraWithout_42 (Or.inr ⟨s0, v1, hs0, rfl, hps, hv1, hv2, (if_pos c34).symm⟩) hP hS
    · refine lv_iconst (v := -1) hx hb dX0_extraWithout_8 (by decide) ?_
      exact hret _ _ _ (w, pg) _ _ dX0_extraWithout_9 (Or.inl ⟨c5, rfl⟩) hP hS
  rw [hH, hlo] at hgo
  exact hgo
theorem hdX0_extraWithout : yX0_extraWithout.cls = RX0 ∧ yX0_extraWithout.cls ≠ "java/lang/invoke/MethodHandle" ∧ yX0_extraWithout.cls ≠ "java/lang/invoke/VarHandle" ∧ (parseMethodDescriptor yX0_extraWithout.desc).map (fun d => d.parameters.length) = some 1 := by decide +kernel
set_option maxHeartbeats 4000000 in
set_option maxRecDepth 100000 in
theorem cX_way (l : Launch) (D : va_G) (g : Nat → Nat) (k : Nat → ClassId) (p : Nat) (a b ln w pg lf : Nat → Nat) (x y : Int32) (hg : sw_XD g) (hp : p < 1024) (hr : sw_rng a b ln) : Met l yX0_way (ws_ yX0_way cX0_way 4 (some .int)) (sw_rm 2) (va_Pc [.ref (g 0), .int (x), .int (y)] (fun U => sw_XP D g k p a b ln w pg lf U.heap ∧ sw_XK D k U)) (va_Qi (fun r (u : Nat → Nat) => ((sw_inb x 6 && sw_inb y 6) = false ∧ r = -1) ∨ ∃ i j v, i < 6 ∧ j < 6 ∧ x = nI i ∧ y = nI j ∧ sw_min a b ln p (2 ^ i ^^^ 2 ^ j) v ∧ r = sw_fv v) (fun (u : Nat → Nat) t => (fun (u : Nat → Nat) (H : Heap) => sw_XP D g k p a b ln u pg lf H) u t.heap) (sw_XA g)) 0 0 (sw_XA g) := by
  refine so_wi (own := RX0) (Bw := fun (u : Nat → Nat) (H : Heap) => sw_XP D g k p a b ln u pg lf H) (by decide) rfl (Nat.le_of_ble_eq_true rfl) (fun P e R s m args bl mt c Q ls S hR hL hB hl hret => ?_)
  obtain ⟨hP, hK⟩ := hB
  obtain ⟨hx, hb, hml, hown, hts⟩ := id S
  have hl : lv_has ls 4 [(0, .ref (g 0)), (1, .int (x)), (2, .int (y))] := hl
  have hS : va_S (sw_XA g) s.heap s.heap [] := va_S.rf
  obtain ⟨H, hH⟩ : ∃ H, H = s.heap := ⟨_, rfl⟩
  obtain ⟨locs, hlo⟩ : ∃ L : List Loc, L = [] := ⟨_, rfl⟩
  have hP : sw_XP D g k p a b ln w pg lf H := by rw [hH]; exact hP
  have hS : va_S (sw_XA g) s.heap H locs := by rw [hH, hlo]; exact hS
  have hgo : W P l e R s m args bl mt c H locs 0 0 Q (F0 m 0 ls []) := by
    refine lv_iload_n hx hb dX0_way_0 rfl (lv_at hl 1 rfl) ?_
    refine sc_st (As := [.int (x)]) (n := 1) S (cX_isCorner l x) (lw_S q59 q60 q21 q61) hdX0_isCorner (by omega) (by omega) (by decide) (Nat.zero_le _) (Nat.zero_le _) (fun _ _ _ _ q => q) (fun _ _ _ => trivial) rfl hl.1 (Nat.le_of_ble_eq_true rfl) dX0_way_1 rfl (fun r hq => ?_)
    subst hq
    refine sr_bf (tgt := 14) hx hb dX0_way_4 (by decide) (fun c4 => ?_) (fun c4 => ?_)
    · refine lv_iconst (v := -1) hx hb dX0_way_14 (by decide) ?_
      exact hret _ _ _ w _ _ dX0_way_15 (Or.inl ⟨by rw [c4]; rfl, rfl⟩) hP hS
    · refine lv_iload_n hx hb dX0_way_7 rfl (lv_at hl 2 rfl) ?_
      refine sc_st (As := [.int (y)]) (n := 1) S (cX_isCorner l y) (lw_S q59 q60 q21 q61) hdX0_isCorner (by omega) (by omega) (by decide) (Nat.zero_le _) (Nat.zero_le _) (fun _ _ _ _ q => q) (fun _ _ _ => trivial) rfl hl.1 (Nat.le_of_ble_eq_true rfl) dX0_way_8 rfl (fun r hq => ?_)
      subst hq
      refine sr_bt (tgt := 16) hx hb dX0_way_11 (by decide) (fun c11 => ?_) (fun c11 => ?_)
      · obtain ⟨i0, hi0, rfl⟩ := sn_in_t (by decide) c4
        obtain ⟨j0, hj0, rfl⟩ := sn_in_t (by decide) c11
        refine lv_aload_n hx hb dX0_way_16 rfl (lv_at hl 0 rfl) ?_
        refine lv_aload_n hx hb dX0_way_17 rfl (lv_at hl 0 rfl) ?_
        refine xg0 hx hb hts hown hK hP dX0_way_18 ?_
        refine xc_wv (As := [.int (nI (p))]) (n := 1) S (cX_measure l D g k p a b ln w pg lf hg hr (by omega)) (lw_V q107 q109 qs5 q21 q110) hdX0_measure (by omega) (by omega) (by decide) (Nat.zero_le _) (Nat.zero_le _) hK hP hS rfl hl.1 (Nat.le_of_ble_eq_true rfl) dX0_way_21 rfl (fun w1 H locs hwF hP hS => ?_)
        have hP : sw_XP D g k p a b ln w1 pg lf H := hP
        refine lv_aload_n hx hb dX0_way_24 rfl (lv_at hl 0 rfl) ?_
        refine xg4 hx hb hts hown hK hP dX0_way_25 ?_
        refine lv_iload_n hx hb dX0_way_28 rfl (lv_at hl 1 rfl) ?_
        refine lv_bipush (v := nI 6) hx hb dX0_way_29 (by decide) ?_
        refine sr_mul hx hb dX0_way_31 ?_
        refine lv_iload_n hx hb dX0_way_32 rfl (lv_at hl 2 rfl) ?_
        refine sr_add hx hb dX0_way_33 ?_
        refine xl4 hx hb hK hP (by omega) dX0_way_34 ?_
        refine lv_istore_n (lv' := [(3, .int (nI (w1 ((i0 * 6) + (j0))))), (0, .ref (g 0)), (1, .int (nI (i0))), (2, .int (nI (j0)))]) hx hb dX0_way_35 rfl hl (by decide) rfl (fun ls hl => ?_)
        have k1 := (hwF i0 j0 hi0 hj0).1
        refine lv_iload_n hx hb dX0_way_36 rfl (lv_at hl 0 rfl) ?_
        refine lv_ldc (v := nI 100000) hx hb hown (hts _ q111) dX0_way_37 ?_
        refine sr_ge (tgt := 46) hx hb (by omega) (by omega) dX0_way_39 (by decide) (fun c39 => ?_) (fun c39 => ?_)
        · refine lv_iconst (v := -1) hx hb dX0_way_46 (by decide) ?_
          exact hret _ _ _ w1 _ _ dX0_way_47 (Or.inr ⟨i0, j0, _, hi0, hj0, rfl, rfl, (hwF i0 j0 hi0 hj0).2, (sw_fv_f c39).symm⟩) hP hS
        · refine lv_iload_n hx hb dX0_way_42 rfl (lv_at hl 0 rfl) ?_
          refine lv_goto (tgt := 47) hx hb dX0_way_43 (by decide) ?_
          exact hret _ _ _ w1 _ _ dX0_way_47 (Or.inr ⟨i0, j0, _, hi0, hj0, rfl, rfl, (hwF i0 j0 hi0 hj0).2, (sw_fv_t c39).symm⟩) hP hS
      · refine lv_iconst (v := -1) hx hb dX0_way_14 (by decide) ?_
        exact hret _ _ _ w _ _ dX0_way_15 (Or.inl ⟨by rw [c4, c11]; rfl, rfl⟩) hP hS
  rw [hH, hlo] at hgo
  exact hgo
theorem hdX0_way : yX0_way.cls = RX0 ∧ yX0_way.cls ≠ "java/lang/invoke/MethodHandle" ∧ yX0_way.cls ≠ "java/lang/invoke/VarHandle" ∧ (parseMethodDescriptor yX0_way.desc).map (fun d => d.parameters.length) = some 2 := by decide +kernel
set_option maxHeartbeats 4000000 in
set_option maxRecDepth 100000 in
theorem cX_walkLength (l : Launch) (D : va_G) (g : Nat → Nat) (k : Nat → ClassId) (p : Nat) (a b ln w pg lf : Nat → Nat)  (hg : sw_XD g) (hp : p < 1024) (hr : sw_rng a b ln) (hne : ∀ s, s < 10 → p.testBit s = true → a s ≠ b s) : Met l yX0_walkLength (ws_ yX0_walkLength cX0_walkLength 3 (some .int)) (sw_rm 4) (va_Pc [.ref (g 0)] (fun U => sw_XP D g k p a b ln w pg lf U.heap ∧ sw_XK D k U)) (va_Qi (fun r (u : (Nat → Nat) × (Nat → Nat)) => ∃ v, v < 100000 ∧ sw_min a b ln p (sw_od a b p 10) v ∧ ((¬ sw_con a b p ∧ r = -1) ∨ (sw_con a b p ∧ r = nI (v + sw_ln ln p 10)))) (fun (u : (Nat → Nat) × (Nat → Nat)) t => (fun (u : (Nat → Nat) × (Nat → Nat)) (H : Heap) => sw_XP D g k p a b ln u.1 u.2 lf H) u t.heap) (sw_XA g)) 0 0 (sw_XA g) := by
  refine so_wi (own := RX0) (Bw := fun (u : (Nat → Nat) × (Nat → Nat)) (H : Heap) => sw_XP D g k p a b ln u.1 u.2 lf H) (by decide) rfl (Nat.le_of_ble_eq_true rfl) (fun P e R s m args bl mt c Q ls S hR hL hB hl hret => ?_)
  obtain ⟨hP, hK⟩ := hB
  obtain ⟨hx, hb, hml, hown, hts⟩ := id S
  have hl : lv_has ls 3 [(0, .ref (g 0))] := hl
  have hS : va_S (sw_XA g) s.heap s.heap [] := va_S.rf
  obtain ⟨H, hH⟩ : ∃ H, H = s.heap := ⟨_, rfl⟩
  obtain ⟨locs, hlo⟩ : ∃ L : List Loc, L = [] := ⟨_, rfl⟩
  have hP : sw_XP D g k p a b ln w pg lf H := by rw [hH]; exact hP
  have hS : va_S (sw_XA g) s.heap H locs := by rw [hH, hlo]; exact hS
  have hgo : W P l e R s m args bl mt c H locs 0 0 Q (F0 m 0 ls []) := by
    refine lv_aload_n hx hb dX0_walkLength_0 rfl (lv_at hl 0 rfl) ?_
    refine xc_wi (As := []) (n := 0) S (cX_extra l D g k p a b ln w pg lf hg hp hr hne) (lw_V q141 q99 q100 q21 q101) hdX0_extra (by omega) (by omega) (by decide) (Nat.zero_le _) (Nat.zero_le _) hK hP hS rfl hl.1 (Nat.le_of_ble_eq_true rfl) dX0_walkLength_1 rfl (fun r u1 H locs hq hP hS => ?_)
    have hP : sw_XP D g k p a b ln (u1.1) (u1.2) lf H := hP
    obtain ⟨v1, hv1, hv2, rfl⟩ := hq
    have hv3 := sw_min_p hr hv2
    rw [sw_fv_t (show v1 < 100000 by omega)]
    refine lv_istore_n (lv' := [(1, .int (nI (v1))), (0, .ref (g 0))]) hx hb dX0_walkLength_4 rfl hl (by decide) rfl (fun ls hl => ?_)
    refine lv_iload_n hx hb dX0_walkLength_5 rfl (lv_at hl 0 rfl) ?_
    refine lv_if_lt (tgt := 16) hx hb dX0_walkLength_6 (by decide) (fun c6 => absurd c6 (nI_pos (by omega))) (fun c6 => ?_)
    refine lv_aload_n hx hb dX0_walkLength_9 rfl (lv_at hl 1 rfl) ?_
    refine xc_ro (As := []) (n := 0) S (cX_connected l D g k p a b ln (u1.1) (u1.2) lf hp hr) (lw_V q142 q87 q88 q21 q89) hdX0_connected (by omega) (by omega) (by decide) (Nat.zero_le _) (Nat.zero_le _) hK hP rfl hl.1 (Nat.le_of_ble_eq_true rfl) dX0_walkLength_10 rfl (fun r hq => ?_)
    obtain ⟨bb, rfl, hbb⟩ := hq
    refine sr_bt (tgt := 18) hx hb dX0_walkLength_13 (by decide) (fun c13 => ?_) (fun c13 => ?_)
    · refine lv_iconst (v := nI 0) hx hb dX0_walkLength_18 (by decide) ?_
      refine lv_istore_n (lv' := [(2, .int (nI (0))), (1, .int (nI (v1))), (0, .ref (g 0))]) hx hb dX0_walkLength_19 rfl hl (by decide) rfl (fun ls hl => ?_)
      have L20 : ∀ (n i : Nat) (x1 : Nat), i ≤ 10 → 11 ≤ i + n → (x1 = v1 + sw_ln ln p i) → ∀ (H : Heap) (locs : List Loc), sw_XP D g k p a b ln (u1.1) (u1.2) lf H → va_S (sw_XA g) s.heap H locs → ∀ (ls : Array Slot), lv_has ls 3 [(0, .ref (g 0)), (1, .int (nI (x1))), (2, .int (nI (i)))] → W P l e R s m args bl mt c H locs 0 0 Q (F0 m 20 ls []) := by
        intro n
        induction n with
        | zero => intro i x1 h1 h2; exact absurd h2 (by omega)
        | succ n ih20 =>
          intro i x1 hi20 hn20 hc H locs hP hS ls hl
          refine lv_iload_n hx hb dX0_walkLength_20 rfl (lv_at hl 2 rfl) ?_
          refine lv_bipush (v := nI 10) hx hb dX0_walkLength_21 (by decide) ?_
          refine sr_ge (tgt := 49) hx hb (by omega) (by omega) dX0_walkLength_23 (by decide) (fun c23 => ?_) (fun c23 => ?_)
          · refine lv_iload_n hx hb dX0_walkLength_49 rfl (lv_at hl 1 rfl) ?_
            exact hret _ _ _ u1 _ _ dX0_walkLength_50 ⟨v1, by omega, hv2, Or.inr ⟨hbb.mp c13, by rw [hc, show i = 10 by omega]⟩⟩ hP hS
          · refine lv_aload_n hx hb dX0_walkLength_26 rfl (lv_at hl 0 rfl) ?_
            refine lv_iload_n hx hb dX0_walkLength_27 rfl (lv_at hl 2 rfl) ?_
            refine xc_ro (As := [.int (nI (i))]) (n := 1) S (cX_has l D g k p a b ln (u1.1) (u1.2) lf (nI i) hp) (lw_V q62 q64 qs0 q21 q65) hdX0_has (by omega) (by omega) (by decide) (Nat.zero_le _) (Nat.zero_le _) hK hP rfl hl.1 (Nat.le_of_ble_eq_true rfl) dX0_walkLength_28 rfl (fun r hq => ?_)
            rw [sn_has_nI p (by omega)] at hq
            subst hq
            refine sr_bf (tgt := 43) hx hb dX0_walkLength_31 (by decide) (fun c31 => ?_) (fun c31 => ?_)
            · refine lv_iinc (v := nI (i + 1)) (lv' := [(2, .int (nI (i + 1))), (0, .ref (g 0)), (1, .int (nI (x1)))]) hx hb dX0_walkLength_43 hl (k := 2) rfl (sn_inc (i)) (by decide) rfl (fun ls hl => ?_)
              refine lv_goto (tgt := 20) hx hb dX0_walkLength_46 (by decide) ?_
              exact ih20 (i + 1) (x1) (by omega) (by omega) (by rw [hc, sw_ln_s0 c31]) _ _ hP hS ls (lv_sub hl [1, 2, 0] rfl)
            · refine lv_iload_n hx hb dX0_walkLength_34 rfl (lv_at hl 1 rfl) ?_
              refine lv_aload_n hx hb dX0_walkLength_35 rfl (lv_at hl 0 rfl) ?_
              refine xg3 hx hb hts hown hK hP dX0_walkLength_36 ?_
              refine lv_iload_n hx hb dX0_walkLength_39 rfl (lv_at hl 2 rfl) ?_
              refine xl3 hx hb hK hP (by omega) dX0_walkLength_40 ?_
              refine sr_add hx hb dX0_walkLength_41 ?_
              refine lv_istore_n (lv' := [(1, .int (nI ((x1) + (ln (i))))), (0, .ref (g 0)), (2, .int (nI (i)))]) hx hb dX0_walkLength_42 rfl hl (by decide) rfl (fun ls hl => ?_)
              refine lv_iinc (v := nI (i + 1)) (lv' := [(2, .int (nI (i + 1))), (1, .int (nI ((x1) + (ln (i))))), (0, .ref (g 0))]) hx hb dX0_walkLength_43 hl (k := 2) rfl (sn_inc (i)) (by decide) rfl (fun ls hl => ?_)
              refine lv_goto (tgt := 20) hx hb dX0_walkLength_46 (by decide) ?_
              exact ih20 (i + 1) ((x1) + (ln (i))) (by omega) (by omega) (by rw [hc, sw_ln_s1 c31, Nat.add_assoc]) _ _ hP hS ls (lv_sub hl [2, 1, 0] rfl)
      exact L20 (11) (0) (v1) (by omega) (by omega) rfl _ _ hP hS ls (lv_sub hl [2, 1, 0] rfl)
    · refine lv_iconst (v := -1) hx hb dX0_walkLength_16 (by decide) ?_
      exact hret _ _ _ u1 _ _ dX0_walkLength_17 ⟨v1, by omega, hv2, Or.inl ⟨fun z => by rw [hbb.mpr z] at c13; exact absurd c13 (by decide), rfl⟩⟩ hP hS
  rw [hH, hlo] at hgo
  exact hgo
theorem hdX0_walkLength : yX0_walkLength.cls = RX0 ∧ yX0_walkLength.cls ≠ "java/lang/invoke/MethodHandle" ∧ yX0_walkLength.cls ≠ "java/lang/invoke/VarHandle" ∧ (parseMethodDescriptor yX0_walkLength.desc).map (fun d => d.parameters.length) = some 0 := by decide +kernel
end
section
/-! CONTRACTS of StreetWalker: the walk, build, close, setLength -/
set_option maxHeartbeats 4000000 in
set_option maxRecDepth 100000 in
theorem cX_nextStreet (l : Launch) (D : va_G) (g : Nat → Nat) (k : Nat → ClassId) (p : Nat) (a b ln w pg lf : Nat → Nat) {A : Nat} (hg : sw_XD g) (hr : sw_rng a b ln) (hA : A < 6) (hlf : ∀ s, s < 10 → lf s ≤ 2) : Met l yX0_nextStreet (ws_ yX0_nextStreet cX0_nextStreet 7 (some .int)) (sw_rm 2) (va_Pc [.ref (g 0), .int (nI (A))] (fun U => sw_XP D g k p a b ln w pg lf U.heap ∧ sw_XK D k U)) (va_Qi (fun r (_ : Unit) => r = sw_ov (sw_nxt a b lf A)) (fun (u : Unit) t => (fun (u : Unit) (H : Heap) => sw_XP D g k p a b ln w pg lf H) u t.heap) (sw_XA g)) 0 0 (sw_XA g) := by
  refine so_wi (own := RX0) (Bw := fun (u : Unit) (H : Heap) => sw_XP D g k p a b ln w pg lf H) (by decide) rfl (Nat.le_of_ble_eq_true rfl) (fun P e R s m args bl mt c Q ls S hR hL hB hl hret => ?_)
  obtain ⟨hP, hK⟩ := hB
  obtain ⟨hx, hb, hml, hown, hts⟩ := id S
  have hl : lv_has ls 7 [(0, .ref (g 0)), (1, .int (nI (A)))] := hl
  have hS : va_S (sw_XA g) s.heap s.heap [] := va_S.rf
  obtain ⟨H, hH⟩ : ∃ H, H = s.heap := ⟨_, rfl⟩
  obtain ⟨locs, hlo⟩ : ∃ L : List Loc, L = [] := ⟨_, rfl⟩
  have hP : sw_XP D g k p a b ln w pg lf H := by rw [hH]; exact hP
  have hS : va_S (sw_XA g) s.heap H locs := by rw [hH, hlo]; exact hS
  have hgo : W P l e R s m args bl mt c H locs 0 0 Q (F0 m 0 ls []) := by
    refine lv_iconst (v := nI 0) hx hb dX0_nextStreet_0 (by decide) ?_
    refine lv_istore_n (lv' := [(2, .int (nI (0))), (0, .ref (g 0)), (1, .int (nI (A)))]) hx hb dX0_nextStreet_1 rfl hl (by decide) rfl (fun ls hl => ?_)
    have L2 : ∀ (n i : Nat), i ≤ 10 → 11 ≤ i + n → (sw_nx (sw_gd a b lf A) (10 - i) i = sw_nxt a b lf A) → ∀ (H : Heap) (locs : List Loc), sw_XP D g k p a b ln w pg lf H → va_S (sw_XA g) s.heap H locs → ∀ (ls : Array Slot), lv_has ls 7 [(0, .ref (g 0)), (1, .int (nI (A))), (2, .int (nI (i)))] → W P l e R s m args bl mt c H locs 0 0 Q (F0 m 2 ls []) := by
      intro n
      induction n with
      | zero => intro i h1 h2; exact absurd h2 (by omega)
      | succ n ih2 =>
        intro i hi2 hn2 hn H locs hP hS ls hl
        refine lv_iload_n hx hb dX0_nextStreet_2 rfl (lv_at hl 2 rfl) ?_
        refine lv_bipush (v := nI 10) hx hb dX0_nextStreet_3 (by decide) ?_
        refine sr_ge (tgt := 126) hx hb (by omega) (by omega) dX0_nextStreet_5 (by decide) (fun c5 => ?_) (fun c5 => ?_)
        · refine lv_iconst (v := -1) hx hb dX0_nextStreet_126 (by decide) ?_
          exact hret _ _ _ () _ _ dX0_nextStreet_127 (by rw [← hn, show i = 10 by omega]; rfl) hP hS
        · obtain ⟨ha6, hb6, -⟩ := hr i (by omega)
          have hfi := hlf i (by omega)
          refine lv_aload_n hx hb dX0_nextStreet_8 rfl (lv_at hl 0 rfl) ?_
          refine xg1 hx hb hts hown hK hP dX0_nextStreet_9 ?_
          refine lv_iload_n hx hb dX0_nextStreet_12 rfl (lv_at hl 2 rfl) ?_
          refine xl1 hx hb hK hP (by omega) dX0_nextStreet_13 ?_
          refine lv_iload_n hx hb dX0_nextStreet_14 rfl (lv_at hl 1 rfl) ?_
          refine sr_eq (tgt := 28) hx hb (by omega) (by omega) dX0_nextStreet_15 (by decide) (fun c15 => ?_) (fun c15 => ?_)
          · refine lv_iconst (v := nI 1) hx hb dX0_nextStreet_28 (by decide) ?_
            refine lv_goto (tgt := 33) hx hb dX0_nextStreet_29 (by decide) ?_
            refine lv_istore_n (lv' := [(3, .int (nI (1))), (0, .ref (g 0)), (1, .int (nI (A))), (2, .int (nI (i)))]) hx hb dX0_nextStreet_33 rfl hl (by decide) rfl (fun ls hl => ?_)
            refine lv_aload_n hx hb dX0_nextStreet_34 rfl (lv_at hl 1 rfl) ?_
            refine xg6 hx hb hts hown hK hP dX0_nextStreet_35 ?_
            refine lv_iload_n hx hb dX0_nextStreet_38 rfl (lv_at hl 3 rfl) ?_
            refine xl6 hx hb hK hP (by omega) dX0_nextStreet_39 ?_
            refine sr_le0 (tgt := 120) hx hb (by omega) dX0_nextStreet_40 (by decide) (fun c40 => ?_) (fun c40 => ?_)
            · refine lv_iinc (v := nI (i + 1)) (lv' := [(2, .int (nI (i + 1))), (3, .int (nI (1))), (0, .ref (g 0)), (1, .int (nI (A)))]) hx hb dX0_nextStreet_120 hl (k := 3) rfl (sn_inc (i)) (by decide) rfl (fun ls hl => ?_)
              refine lv_goto (tgt := 2) hx hb dX0_nextStreet_123 (by decide) ?_
              exact ih2 (i + 1) (by omega) (by omega) (by rw [← sw_nx_n (by omega) (sw_gd_0 c40)]; exact hn) _ _ hP hS ls (lv_sub hl [2, 3, 0] rfl)
            · refine lv_iload_n hx hb dX0_nextStreet_43 rfl (lv_at hl 0 rfl) ?_
              refine sr_eq0 (tgt := 120) hx hb (by omega) dX0_nextStreet_44 (by decide) (fun c44 => absurd c44 (by decide)) (fun c44 => ?_)
              have hat : a i = A ∨ b i = A := Or.inl c15
              have hlf1 : ∀ s, s < 10 → (va_up lf i (lf i - 1)) s ≤ 2 := fun s hs => by
                have := hlf s hs
                unfold va_up
                split <;> omega
              refine lv_aload_n hx hb dX0_nextStreet_47 rfl (lv_at hl 1 rfl) ?_
              refine xg6 hx hb hts hown hK hP dX0_nextStreet_48 ?_
              refine lv_iload_n hx hb dX0_nextStreet_51 rfl (lv_at hl 3 rfl) ?_
              refine lv_dup2_11 hx hb dX0_nextStreet_52 rfl rfl ?_
              refine xl6 hx hb hK hP (by omega) dX0_nextStreet_53 ?_
              refine lv_iconst (v := nI 1) hx hb dX0_nextStreet_54 (by decide) ?_
              refine sr_sub hx hb (by omega) dX0_nextStreet_55 ?_
              refine lv_i2b (v := nI ((lf (i)) - (1))) hx hb dX0_nextStreet_56 (sn_i2b _ (by omega)) ?_
              refine xs6 hx hb hK hP hg hS (by omega) (by omega) dX0_nextStreet_57 (fun H locs hP hS => ?_)
              refine lv_aload_n hx hb dX0_nextStreet_58 rfl (lv_at hl 1 rfl) ?_
              refine xc_ro (As := []) (n := 0) S (cX_stillLeft l D g k p a b ln w pg (va_up lf (i) ((lf (i)) - (1))) hlf1) (lw_V q153 q155 qs9 q21 q156) hdX0_stillLeft (by omega) (by omega) (by decide) (Nat.zero_le _) (Nat.zero_le _) hK hP rfl hl.1 (Nat.le_of_ble_eq_true rfl) dX0_nextStreet_59 rfl (fun r hq => ?_)
              subst hq
              refine lv_istore (lv' := [(4, .int (nI (sw_rs (va_up lf i (lf i - 1)) 10))), (3, .int (nI (1))), (0, .ref (g 0)), (1, .int (nI (A))), (2, .int (nI (i)))]) hx hb dX0_nextStreet_62 hl (by decide) rfl (fun ls hl => ?_)
              refine lv_aload_n hx hb dX0_nextStreet_64 rfl (lv_at hl 2 rfl) ?_
              refine xg1 hx hb hts hown hK hP dX0_nextStreet_65 ?_
              refine lv_iload_n hx hb dX0_nextStreet_68 rfl (lv_at hl 4 rfl) ?_
              refine xl1 hx hb hK hP (by omega) dX0_nextStreet_69 ?_
              refine lv_aload_n hx hb dX0_nextStreet_70 rfl (lv_at hl 2 rfl) ?_
              refine xg2 hx hb hts hown hK hP dX0_nextStreet_71 ?_
              refine lv_iload_n hx hb dX0_nextStreet_74 rfl (lv_at hl 4 rfl) ?_
              refine xl2 hx hb hK hP (by omega) dX0_nextStreet_75 ?_
              refine sr_add hx hb dX0_nextStreet_76 ?_
              refine lv_iload_n hx hb dX0_nextStreet_77 rfl (lv_at hl 3 rfl) ?_
              refine sr_sub hx hb (by omega) dX0_nextStreet_78 ?_
              refine lv_istore (lv' := [(5, .int (nI (((a (i)) + (b (i))) - (A)))), (4, .int (nI (sw_rs (va_up lf i (lf i - 1)) 10))), (3, .int (nI (1))), (0, .ref (g 0)), (1, .int (nI (A))), (2, .int (nI (i)))]) hx hb dX0_nextStreet_79 hl (by decide) rfl (fun ls hl => ?_)
              have hB6 : a i + b i - A < 6 := by omega
              have hB64 := sw_p64 hB6
              have hX1 : sw_rs (va_up lf i (lf i - 1)) 10 < 1024 := sw_rs_lt _ 10
              refine lv_aload_n hx hb dX0_nextStreet_81 rfl (lv_at hl 3 rfl) ?_
              refine lv_iconst (v := nI 1) hx hb dX0_nextStreet_82 (by decide) ?_
              refine lv_iload hx hb dX0_nextStreet_83 (lv_at hl 0 rfl) ?_
              refine sr_shl hx hb (by omega) dX0_nextStreet_85 ?_
              refine lv_iload hx hb dX0_nextStreet_86 (lv_at hl 1 rfl) ?_
              refine xc_ro (As := [.int (nI (2 ^ (((a (i)) + (b (i))) - (A)))), .int (nI (sw_rs (va_up lf i (lf i - 1)) 10))]) (n := 2) S (cX_reached l D g k p a b ln w pg (va_up lf (i) ((lf (i)) - (1))) hr (by omega)) (lw_V q94 q96 qs3 q21 q97) hdX0_reached (by omega) (by omega) (by decide) (Nat.zero_le _) (Nat.zero_le _) hK hP rfl hl.1 (Nat.le_of_ble_eq_true rfl) dX0_nextStreet_88 rfl (fun r hq => ?_)
              subst hq
              refine lv_istore (lv' := [(6, .int (nI (sw_rc a b (sw_rs (va_up lf i (lf i - 1)) 10) (2 ^ (((a (i)) + (b (i))) - (A))) 6))), (5, .int (nI (((a (i)) + (b (i))) - (A)))), (4, .int (nI (sw_rs (va_up lf i (lf i - 1)) 10))), (3, .int (nI (1))), (0, .ref (g 0)), (1, .int (nI (A))), (2, .int (nI (i)))]) hx hb dX0_nextStreet_91 hl (by decide) rfl (fun ls hl => ?_)
              refine lv_aload_n hx hb dX0_nextStreet_93 rfl (lv_at hl 4 rfl) ?_
              refine xg6 hx hb hts hown hK hP dX0_nextStreet_94 ?_
              refine lv_iload_n hx hb dX0_nextStreet_97 rfl (lv_at hl 6 rfl) ?_
              refine lv_dup2_11 hx hb dX0_nextStreet_98 rfl rfl ?_
              refine xl6 hx hb hK hP (by omega) dX0_nextStreet_99 ?_
              refine lv_iconst (v := nI 1) hx hb dX0_nextStreet_100 (by decide) ?_
              refine sr_add hx hb dX0_nextStreet_101 ?_
              refine lv_i2b (v := nI (((va_up lf (i) ((lf (i)) - (1))) (i)) + (1))) hx hb dX0_nextStreet_102 (sn_i2b _ (by rw [sn_up_at]; omega)) ?_
              refine xs6 hx hb hK hP hg hS (by omega) (by rw [sn_up_at]; omega) dX0_nextStreet_103 (fun H locs hP hS => ?_)
              rw [sn_up_at, sn_up_back lf i c40] at hP
              refine lv_aload_n hx hb dX0_nextStreet_104 rfl (lv_at hl 4 rfl) ?_
              refine lv_iload hx hb dX0_nextStreet_105 (lv_at hl 2 rfl) ?_
              refine xc_ro (As := [.int (nI (sw_rs (va_up lf i (lf i - 1)) 10))]) (n := 1) S (cX_touched l D g k p a b ln w pg lf hr (by omega)) (lw_V q90 q92 qs2 q21 q93) hdX0_touched (by omega) (by omega) (by decide) (Nat.zero_le _) (Nat.zero_le _) hK hP rfl hl.1 (Nat.le_of_ble_eq_true rfl) dX0_nextStreet_107 rfl (fun r hq => ?_)
              subst hq
              refine lv_iload hx hb dX0_nextStreet_110 (lv_at hl 0 rfl) ?_
              refine sr_not hx hb dX0_nextStreet_112 dX0_nextStreet_113 dX0_nextStreet_114 ?_
              refine sr_ne0 (tgt := 120) hx hb (sw_an_lt (by have := sw_tc_lt hr (sw_rs (va_up lf i (lf i - 1)) 10) 10 (Nat.le_refl _); omega)) dX0_nextStreet_115 (by decide) (fun c115 => ?_) (fun c115 => ?_)
              · have hgd : sw_gd a b lf A i = false := by
                  rw [sw_gd_al c40 (Or.inl c15)]
                  cases hq : sw_al a (sw_rs (va_up lf i (lf i - 1)) 10) (sw_rc a b (sw_rs (va_up lf i (lf i - 1)) 10) (2 ^ (a i + b i - A)) 6) 10 with
                  | false => rfl
                  | true => exact absurd ((sw_tc_al hr _ hB64).mpr hq) c115
                refine lv_iinc (v := nI (i + 1)) (lv' := [(2, .int (nI (i + 1))), (6, .int (nI (sw_rc a b (sw_rs (va_up lf i (lf i - 1)) 10) (2 ^ (((a (i)) + (b (i))) - (A))) 6))), (5, .int (nI (((a (i)) + (b (i))) - (A)))), (4, .int (nI (sw_rs (va_up lf i (lf i - 1)) 10))), (3, .int (nI (1))), (0, .ref (g 0)), (1, .int (nI (A)))]) hx hb dX0_nextStreet_120 hl (k := 6) rfl (sn_inc (i)) (by decide) rfl (fun ls hl => ?_)
                refine lv_goto (tgt := 2) hx hb dX0_nextStreet_123 (by decide) ?_
                exact ih2 (i + 1) (by omega) (by omega) (by rw [← sw_nx_n (by omega) hgd]; exact hn) _ _ hP hS ls (lv_sub hl [5, 6, 0] rfl)
              · refine lv_iload_n hx hb dX0_nextStreet_118 rfl (lv_at hl 6 rfl) ?_
                exact hret _ _ _ () _ _ dX0_nextStreet_119 (by rw [← hn, sw_nx_s (by omega) (by rw [sw_gd_al c40 (Or.inl c15)]; exact (sw_tc_al hr _ hB64).mp c115)]; rfl) hP hS
          · refine lv_aload_n hx hb dX0_nextStreet_18 rfl (lv_at hl 0 rfl) ?_
            refine xg2 hx hb hts hown hK hP dX0_nextStreet_19 ?_
            refine lv_iload_n hx hb dX0_nextStreet_22 rfl (lv_at hl 2 rfl) ?_
            refine xl2 hx hb hK hP (by omega) dX0_nextStreet_23 ?_
            refine lv_iload_n hx hb dX0_nextStreet_24 rfl (lv_at hl 1 rfl) ?_
            refine sr_ne (tgt := 32) hx hb (by omega) (by omega) dX0_nextStreet_25 (by decide) (fun c25 => ?_) (fun c25 => ?_)
            · refine lv_iconst (v := nI 0) hx hb dX0_nextStreet_32 (by decide) ?_
              refine lv_istore_n (lv' := [(3, .int (nI (0))), (0, .ref (g 0)), (1, .int (nI (A))), (2, .int (nI (i)))]) hx hb dX0_nextStreet_33 rfl hl (by decide) rfl (fun ls hl => ?_)
              refine lv_aload_n hx hb dX0_nextStreet_34 rfl (lv_at hl 1 rfl) ?_
              refine xg6 hx hb hts hown hK hP dX0_nextStreet_35 ?_
              refine lv_iload_n hx hb dX0_nextStreet_38 rfl (lv_at hl 3 rfl) ?_
              refine xl6 hx hb hK hP (by omega) dX0_nextStreet_39 ?_
              refine sr_le0 (tgt := 120) hx hb (by omega) dX0_nextStreet_40 (by decide) (fun c40 => ?_) (fun c40 => ?_)
              · refine lv_iinc (v := nI (i + 1)) (lv' := [(2, .int (nI (i + 1))), (3, .int (nI (0))), (0, .ref (g 0)), (1, .int (nI (A)))]) hx hb dX0_nextStreet_120 hl (k := 3) rfl (sn_inc (i)) (by decide) rfl (fun ls hl => ?_)
                refine lv_goto (tgt := 2) hx hb dX0_nextStreet_123 (by decide) ?_
                exact ih2 (i + 1) (by omega) (by omega) (by rw [← sw_nx_n (by omega) (sw_gd_0 c40)]; exact hn) _ _ hP hS ls (lv_sub hl [2, 3, 0] rfl)
              · refine lv_iload_n hx hb dX0_nextStreet_43 rfl (lv_at hl 0 rfl) ?_
                refine sr_eq0 (tgt := 120) hx hb (by omega) dX0_nextStreet_44 (by decide) (fun c44 => ?_) (fun c44 => by exact absurd rfl c44)
                refine lv_iinc (v := nI (i + 1)) (lv' := [(2, .int (nI (i + 1))), (3, .int (nI (0))), (0, .ref (g 0)), (1, .int (nI (A)))]) hx hb dX0_nextStreet_120 hl (k := 3) rfl (sn_inc (i)) (by decide) rfl (fun ls hl => ?_)
                refine lv_goto (tgt := 2) hx hb dX0_nextStreet_123 (by decide) ?_
                exact ih2 (i + 1) (by omega) (by omega) (by rw [← sw_nx_n (by omega) (sw_gd_n c15 c25)]; exact hn) _ _ hP hS ls (lv_sub hl [2, 3, 0] rfl)
            · refine lv_iconst (v := nI 1) hx hb dX0_nextStreet_28 (by decide) ?_
              refine lv_goto (tgt := 33) hx hb dX0_nextStreet_29 (by decide) ?_
              refine lv_istore_n (lv' := [(3, .int (nI (1))), (0, .ref (g 0)), (1, .int (nI (A))), (2, .int (nI (i)))]) hx hb dX0_nextStreet_33 rfl hl (by decide) rfl (fun ls hl => ?_)
              refine lv_aload_n hx hb dX0_nextStreet_34 rfl (lv_at hl 1 rfl) ?_
              refine xg6 hx hb hts hown hK hP dX0_nextStreet_35 ?_
              refine lv_iload_n hx hb dX0_nextStreet_38 rfl (lv_at hl 3 rfl) ?_
              refine xl6 hx hb hK hP (by omega) dX0_nextStreet_39 ?_
              refine sr_le0 (tgt := 120) hx hb (by omega) dX0_nextStreet_40 (by decide) (fun c40 => ?_) (fun c40 => ?_)
              · refine lv_iinc (v := nI (i + 1)) (lv' := [(2, .int (nI (i + 1))), (3, .int (nI (1))), (0, .ref (g 0)), (1, .int (nI (A)))]) hx hb dX0_nextStreet_120 hl (k := 3) rfl (sn_inc (i)) (by decide) rfl (fun ls hl => ?_)
                refine lv_goto (tgt := 2) hx hb dX0_nextStreet_123 (by decide) ?_
                exact ih2 (i + 1) (by omega) (by omega) (by rw [← sw_nx_n (by omega) (sw_gd_0 c40)]; exact hn) _ _ hP hS ls (lv_sub hl [2, 3, 0] rfl)
              · refine lv_iload_n hx hb dX0_nextStreet_43 rfl (lv_at hl 0 rfl) ?_
                refine sr_eq0 (tgt := 120) hx hb (by omega) dX0_nextStreet_44 (by decide) (fun c44 => absurd c44 (by decide)) (fun c44 => ?_)
                have hat : a i = A ∨ b i = A := Or.inr c25
                have hlf1 : ∀ s, s < 10 → (va_up lf i (lf i - 1)) s ≤ 2 := fun s hs => by
                  have := hlf s hs
                  unfold va_up
                  split <;> omega
                refine lv_aload_n hx hb dX0_nextStreet_47 rfl (lv_at hl 1 rfl) ?_
                refine xg6 hx hb hts hown hK hP dX0_nextStreet_48 ?_
                refine lv_iload_n hx hb dX0_nextStreet_51 rfl (lv_at hl 3 rfl) ?_
                refine lv_dup2_11 hx hb dX0_nextStreet_52 rfl rfl ?_
                refine xl6 hx hb hK hP (by omega) dX0_nextStreet_53 ?_
                refine lv_iconst (v := nI 1) hx hb dX0_nextStreet_54 (by decide) ?_
                refine sr_sub hx hb (by omega) dX0_nextStreet_55 ?_
                refine lv_i2b (v := nI ((lf (i)) - (1))) hx hb dX0_nextStreet_56 (sn_i2b _ (by omega)) ?_
                refine xs6 hx hb hK hP hg hS (by omega) (by omega) dX0_nextStreet_57 (fun H locs hP hS => ?_)
                refine lv_aload_n hx hb dX0_nextStreet_58 rfl (lv_at hl 1 rfl) ?_
                refine xc_ro (As := []) (n := 0) S (cX_stillLeft l D g k p a b ln w pg (va_up lf (i) ((lf (i)) - (1))) hlf1) (lw_V q153 q155 qs9 q21 q156) hdX0_stillLeft (by omega) (by omega) (by decide) (Nat.zero_le _) (Nat.zero_le _) hK hP rfl hl.1 (Nat.le_of_ble_eq_true rfl) dX0_nextStreet_59 rfl (fun r hq => ?_)
                subst hq
                refine lv_istore (lv' := [(4, .int (nI (sw_rs (va_up lf i (lf i - 1)) 10))), (3, .int (nI (1))), (0, .ref (g 0)), (1, .int (nI (A))), (2, .int (nI (i)))]) hx hb dX0_nextStreet_62 hl (by decide) rfl (fun ls hl => ?_)
                refine lv_aload_n hx hb dX0_nextStreet_64 rfl (lv_at hl 2 rfl) ?_
                refine xg1 hx hb hts hown hK hP dX0_nextStreet_65 ?_
                refine lv_iload_n hx hb dX0_nextStreet_68 rfl (lv_at hl 4 rfl) ?_
                refine xl1 hx hb hK hP (by omega) dX0_nextStreet_69 ?_
                refine lv_aload_n hx hb dX0_nextStreet_70 rfl (lv_at hl 2 rfl) ?_
                refine xg2 hx hb hts hown hK hP dX0_nextStreet_71 ?_
                refine lv_iload_n hx hb dX0_nextStreet_74 rfl (lv_at hl 4 rfl) ?_
                refine xl2 hx hb hK hP (by omega) dX0_nextStreet_75 ?_
                refine sr_add hx hb dX0_nextStreet_76 ?_
                refine lv_iload_n hx hb dX0_nextStreet_77 rfl (lv_at hl 3 rfl) ?_
                refine sr_sub hx hb (by omega) dX0_nextStreet_78 ?_
                refine lv_istore (lv' := [(5, .int (nI (((a (i)) + (b (i))) - (A)))), (4, .int (nI (sw_rs (va_up lf i (lf i - 1)) 10))), (3, .int (nI (1))), (0, .ref (g 0)), (1, .int (nI (A))), (2, .int (nI (i)))]) hx hb dX0_nextStreet_79 hl (by decide) rfl (fun ls hl => ?_)
                have hB6 : a i + b i - A < 6 := by omega
                have hB64 := sw_p64 hB6
                have hX1 : sw_rs (va_up lf i (lf i - 1)) 10 < 1024 := sw_rs_lt _ 10
                refine lv_aload_n hx hb dX0_nextStreet_81 rfl (lv_at hl 3 rfl) ?_
                refine lv_iconst (v := nI 1) hx hb dX0_nextStreet_82 (by decide) ?_
                refine lv_iload hx hb dX0_nextStreet_83 (lv_at hl 0 rfl) ?_
                refine sr_shl hx hb (by omega) dX0_nextStreet_85 ?_
                refine lv_iload hx hb dX0_nextStreet_86 (lv_at hl 1 rfl) ?_
                refine xc_ro (As := [.int (nI (2 ^ (((a (i)) + (b (i))) - (A)))), .int (nI (sw_rs (va_up lf i (lf i - 1)) 10))]) (n := 2) S (cX_reached l D g k p a b ln w pg (va_up lf (i) ((lf (i)) - (1))) hr (by omega)) (lw_V q94 q96 qs3 q21 q97) hdX0_reached (by omega) (by omega) (by decide) (Nat.zero_le _) (Nat.zero_le _) hK hP rfl hl.1 (Nat.le_of_ble_eq_true rfl) dX0_nextStreet_88 rfl (fun r hq => ?_)
                subst hq
                refine lv_istore (lv' := [(6, .int (nI (sw_rc a b (sw_rs (va_up lf i (lf i - 1)) 10) (2 ^ (((a (i)) + (b (i))) - (A))) 6))), (5, .int (nI (((a (i)) + (b (i))) - (A)))), (4, .int (nI (sw_rs (va_up lf i (lf i - 1)) 10))), (3, .int (nI (1))), (0, .ref (g 0)), (1, .int (nI (A))), (2, .int (nI (i)))]) hx hb dX0_nextStreet_91 hl (by decide) rfl (fun ls hl => ?_)
                refine lv_aload_n hx hb dX0_nextStreet_93 rfl (lv_at hl 4 rfl) ?_
                refine xg6 hx hb hts hown hK hP dX0_nextStreet_94 ?_
                refine lv_iload_n hx hb dX0_nextStreet_97 rfl (lv_at hl 6 rfl) ?_
                refine lv_dup2_11 hx hb dX0_nextStreet_98 rfl rfl ?_
                refine xl6 hx hb hK hP (by omega) dX0_nextStreet_99 ?_
                refine lv_iconst (v := nI 1) hx hb dX0_nextStreet_100 (by decide) ?_
                refine sr_add hx hb dX0_nextStreet_101 ?_
                refine lv_i2b (v := nI (((va_up lf (i) ((lf (i)) - (1))) (i)) + (1))) hx hb dX0_nextStreet_102 (sn_i2b _ (by rw [sn_up_at]; omega)) ?_
                refine xs6 hx hb hK hP hg hS (by omega) (by rw [sn_up_at]; omega) dX0_nextStreet_103 (fun H locs hP hS => ?_)
                rw [sn_up_at, sn_up_back lf i c40] at hP
                refine lv_aload_n hx hb dX0_nextStreet_104 rfl (lv_at hl 4 rfl) ?_
                refine lv_iload hx hb dX0_nextStreet_105 (lv_at hl 2 rfl) ?_
                refine xc_ro (As := [.int (nI (sw_rs (va_up lf i (lf i - 1)) 10))]) (n := 1) S (cX_touched l D g k p a b ln w pg lf hr (by omega)) (lw_V q90 q92 qs2 q21 q93) hdX0_touched (by omega) (by omega) (by decide) (Nat.zero_le _) (Nat.zero_le _) hK hP rfl hl.1 (Nat.le_of_ble_eq_true rfl) dX0_nextStreet_107 rfl (fun r hq => ?_)
                subst hq
                refine lv_iload hx hb dX0_nextStreet_110 (lv_at hl 0 rfl) ?_
                refine sr_not hx hb dX0_nextStreet_112 dX0_nextStreet_113 dX0_nextStreet_114 ?_
                refine sr_ne0 (tgt := 120) hx hb (sw_an_lt (by have := sw_tc_lt hr (sw_rs (va_up lf i (lf i - 1)) 10) 10 (Nat.le_refl _); omega)) dX0_nextStreet_115 (by decide) (fun c115 => ?_) (fun c115 => ?_)
                · have hgd : sw_gd a b lf A i = false := by
                    rw [sw_gd_al c40 (Or.inr c25)]
                    cases hq : sw_al a (sw_rs (va_up lf i (lf i - 1)) 10) (sw_rc a b (sw_rs (va_up lf i (lf i - 1)) 10) (2 ^ (a i + b i - A)) 6) 10 with
                    | false => rfl
                    | true => exact absurd ((sw_tc_al hr _ hB64).mpr hq) c115
                  refine lv_iinc (v := nI (i + 1)) (lv' := [(2, .int (nI (i + 1))), (6, .int (nI (sw_rc a b (sw_rs (va_up lf i (lf i - 1)) 10) (2 ^ (((a (i)) + (b (i))) - (A))) 6))), (5, .int (nI (((a (i)) + (b (i))) - (A)))), (4, .int (nI (sw_rs (va_up lf i (lf i - 1)) 10))), (3, .int (nI (1))), (0, .ref (g 0)), (1, .int (nI (A)))]) hx hb dX0_nextStreet_120 hl (k := 6) rfl (sn_inc (i)) (by decide) rfl (fun ls hl => ?_)
                  refine lv_goto (tgt := 2) hx hb dX0_nextStreet_123 (by decide) ?_
                  exact ih2 (i + 1) (by omega) (by omega) (by rw [← sw_nx_n (by omega) hgd]; exact hn) _ _ hP hS ls (lv_sub hl [5, 6, 0] rfl)
                · refine lv_iload_n hx hb dX0_nextStreet_118 rfl (lv_at hl 6 rfl) ?_
                  exact hret _ _ _ () _ _ dX0_nextStreet_119 (by rw [← hn, sw_nx_s (by omega) (by rw [sw_gd_al c40 (Or.inr c25)]; exact (sw_tc_al hr _ hB64).mp c115)]; rfl) hP hS
    exact L2 (11) (0) (by omega) (by omega) rfl _ _ hP hS ls (lv_sub hl [1, 2, 0] rfl)
  rw [hH, hlo] at hgo
  exact hgo
theorem hdX0_nextStreet : yX0_nextStreet.cls = RX0 ∧ yX0_nextStreet.cls ≠ "java/lang/invoke/MethodHandle" ∧ yX0_nextStreet.cls ≠ "java/lang/invoke/VarHandle" ∧ (parseMethodDescriptor yX0_nextStreet.desc).map (fun d => d.parameters.length) = some 1 := by decide +kernel
set_option maxHeartbeats 4000000 in
set_option maxRecDepth 100000 in
theorem cX_walkAt (l : Launch) (D : va_G) (g : Nat → Nat) (k : Nat → ClassId) (p : Nat) (a b ln w pg lf : Nat → Nat) (x y : Int32) (hg : sw_XD g) (hp : p < 1024) (hr : sw_rng a b ln) (hne : ∀ s, s < 10 → p.testBit s = true → a s ≠ b s) : Met l yX0_walkAt (ws_ yX0_walkAt cX0_walkAt 7 (some .int)) (sw_rm 5) (va_Pc [.ref (g 0), .int (x), .int (y)] (fun U => sw_XP D g k p a b ln w pg lf U.heap ∧ sw_XK D k U)) (va_Qi (fun r (u : (Nat → Nat) × (Nat → Nat) × (Nat → Nat)) => (¬ (sw_inb x 6 = true ∧ sw_inb y 20 = true ∧ sw_con a b p) ∧ r = -1) ∨ ∃ c0 k0 B, c0 < 6 ∧ k0 < 20 ∧ x = nI c0 ∧ y = nI k0 ∧ sw_con a b p ∧ sw_best a b ln p B ∧ r = sw_ov (sw_wk a b k0 (sw_f0 p B) c0)) (fun (u : (Nat → Nat) × (Nat → Nat) × (Nat → Nat)) t => (fun (u : (Nat → Nat) × (Nat → Nat) × (Nat → Nat)) (H : Heap) => sw_XP D g k p a b ln u.1 u.2.1 u.2.2 H) u t.heap) (sw_XA g)) 0 0 (sw_XA g) := by
  refine so_wi (own := RX0) (Bw := fun (u : (Nat → Nat) × (Nat → Nat) × (Nat → Nat)) (H : Heap) => sw_XP D g k p a b ln u.1 u.2.1 u.2.2 H) (by decide) rfl (Nat.le_of_ble_eq_true rfl) (fun P e R s m args bl mt c Q ls S hR hL hB hl hret => ?_)
  obtain ⟨hP, hK⟩ := hB
  obtain ⟨hx, hb, hml, hown, hts⟩ := id S
  have hl : lv_has ls 7 [(0, .ref (g 0)), (1, .int (x)), (2, .int (y))] := hl
  have hS : va_S (sw_XA g) s.heap s.heap [] := va_S.rf
  obtain ⟨H, hH⟩ : ∃ H, H = s.heap := ⟨_, rfl⟩
  obtain ⟨locs, hlo⟩ : ∃ L : List Loc, L = [] := ⟨_, rfl⟩
  have hP : sw_XP D g k p a b ln w pg lf H := by rw [hH]; exact hP
  have hS : va_S (sw_XA g) s.heap H locs := by rw [hH, hlo]; exact hS
  have hgo : W P l e R s m args bl mt c H locs 0 0 Q (F0 m 0 ls []) := by
    refine lv_iload_n hx hb dX0_walkAt_0 rfl (lv_at hl 1 rfl) ?_
    refine sc_st (As := [.int (x)]) (n := 1) S (cX_isCorner l x) (lw_S q59 q60 q21 q61) hdX0_isCorner (by omega) (by omega) (by decide) (Nat.zero_le _) (Nat.zero_le _) (fun _ _ _ _ q => q) (fun _ _ _ => trivial) rfl hl.1 (Nat.le_of_ble_eq_true rfl) dX0_walkAt_1 rfl (fun r hq => ?_)
    subst hq
    refine sr_bf (tgt := 24) hx hb dX0_walkAt_4 (by decide) (fun c4 => ?_) (fun c4 => ?_)
    · refine lv_iconst (v := -1) hx hb dX0_walkAt_24 (by decide) ?_
      exact hret _ _ _ (w, pg, lf) _ _ dX0_walkAt_25 (Or.inl ⟨fun z => by rw [z.1] at c4; exact absurd c4 (by decide), rfl⟩) hP hS
    · refine lv_iload_n hx hb dX0_walkAt_7 rfl (lv_at hl 2 rfl) ?_
      refine lv_if_lt (tgt := 24) hx hb dX0_walkAt_8 (by decide) (fun c8 => ?_) (fun c8 => ?_)
      · refine lv_iconst (v := -1) hx hb dX0_walkAt_24 (by decide) ?_
        exact hret _ _ _ (w, pg, lf) _ _ dX0_walkAt_25 (Or.inl ⟨fun z => by rw [sn_in_neg c8] at z; exact absurd z.2.1 (by decide), rfl⟩) hP hS
      · refine lv_iload_n hx hb dX0_walkAt_11 rfl (lv_at hl 2 rfl) ?_
        refine lv_bipush (v := nI 19) hx hb dX0_walkAt_12 (by decide) ?_
        refine lv_icmp_gt (tgt := 24) hx hb dX0_walkAt_14 (by decide) (fun c14 => ?_) (fun c14 => ?_)
        · refine lv_iconst (v := -1) hx hb dX0_walkAt_24 (by decide) ?_
          exact hret _ _ _ (w, pg, lf) _ _ dX0_walkAt_25 (Or.inl ⟨fun z => by rw [sn_in_20f c14] at z; exact absurd z.2.1 (by decide), rfl⟩) hP hS
        · refine lv_aload_n hx hb dX0_walkAt_17 rfl (lv_at hl 0 rfl) ?_
          refine xc_wi (As := []) (n := 0) S (cX_walkLength l D g k p a b ln w pg lf hg hp hr hne) (lw_V q147 q138 q139 q21 q140) hdX0_walkLength (by omega) (by omega) (by decide) (Nat.zero_le _) (Nat.zero_le _) hK hP hS rfl hl.1 (Nat.le_of_ble_eq_true rfl) dX0_walkAt_18 rfl (fun r0 u1 H locs hq hP hS => ?_)
          have hP : sw_XP D g k p a b ln (u1.1) (u1.2) lf H := hP
          obtain ⟨v1, hv1, hv2, hv3⟩ := hq
          have hv4 := sw_min_p hr hv2
          have hv5 := sw_ln_bound (l := ln) p 10 (fun s hs => (hr s hs).2.2)
          refine lv_if_ge (tgt := 26) hx hb dX0_walkAt_21 (by decide) (fun c21 => ?_) (fun c21 => ?_)
          · have hcon : sw_con a b p := by
              rcases hv3 with q | q
              · rw [q.2] at c21
                exact absurd c21 (by decide)
              · exact q.1
            obtain ⟨c0, hc0, rfl⟩ := sn_in_t (by decide) c4
            obtain ⟨k0, hk0, rfl⟩ := sn_in_t (by decide) (sn_in_20 c8 c14)
            have htc := sw_tc_lt hr p 10 (Nat.le_refl _)
            refine lv_aload_n hx hb dX0_walkAt_26 rfl (lv_at hl 0 rfl) ?_
            refine lv_aload_n hx hb dX0_walkAt_27 rfl (lv_at hl 0 rfl) ?_
            refine xg0 hx hb hts hown hK hP dX0_walkAt_28 ?_
            refine xc_ro (As := [.int (nI (p))]) (n := 1) S (cX_touched l D g k p a b ln (u1.1) (u1.2) lf hr (by omega)) (lw_V q90 q92 qs2 q21 q93) hdX0_touched (by omega) (by omega) (by decide) (Nat.zero_le _) (Nat.zero_le _) hK hP rfl hl.1 (Nat.le_of_ble_eq_true rfl) dX0_walkAt_31 rfl (fun r hq => ?_)
            subst hq
            refine lv_iload_n hx hb dX0_walkAt_34 rfl (lv_at hl 1 rfl) ?_
            refine sr_bit hx hb (by omega) (by omega) dX0_walkAt_35 dX0_walkAt_36 dX0_walkAt_37 ?_
            refine sr_bt (tgt := 43) hx hb dX0_walkAt_38 (by decide) (fun c38 => ?_) (fun c38 => ?_)
            · refine lv_aload_n hx hb dX0_walkAt_43 rfl (lv_at hl 0 rfl) ?_
              refine xc_wi (As := []) (n := 0) S (cX_bestSet l D g k p a b ln (u1.1) (u1.2) lf hg hp hr hne) (lw_V q148 q122 q123 q21 q124) hdX0_bestSet (by omega) (by omega) (by decide) (Nat.zero_le _) (Nat.zero_le _) hK hP hS rfl hl.1 (Nat.le_of_ble_eq_true rfl) dX0_walkAt_44 rfl (fun r u2 H locs hq hP hS => ?_)
              have hP : sw_XP D g k p a b ln (u2.1) (u2.2) lf H := hP
              obtain ⟨B, rfl, hB0⟩ := hq
              have hB1 : B < 1024 := Nat.lt_of_le_of_lt (sw_sub_le hB0.1) hp
              refine lv_istore_n (lv' := [(3, .int (nI (B))), (0, .ref (g 0)), (1, .int (nI (c0))), (2, .int (nI (k0)))]) hx hb dX0_walkAt_47 rfl hl (by decide) rfl (fun ls hl => ?_)
              refine lv_iconst (v := nI 0) hx hb dX0_walkAt_48 (by decide) ?_
              refine lv_istore (lv' := [(4, .int (nI (0))), (3, .int (nI (B))), (0, .ref (g 0)), (1, .int (nI (c0))), (2, .int (nI (k0)))]) hx hb dX0_walkAt_49 hl (by decide) rfl (fun ls hl => ?_)
              have L51 : ∀ (n i : Nat) (f1 : Nat → Nat), i ≤ 10 → 11 ≤ i + n → (∀ t, t < i → f1 t = sw_f0 p B t) → ∀ (H : Heap) (locs : List Loc), sw_XP D g k p a b ln (u2.1) (u2.2) f1 H → va_S (sw_XA g) s.heap H locs → ∀ (ls : Array Slot), lv_has ls 7 [(0, .ref (g 0)), (1, .int (nI (c0))), (2, .int (nI (k0))), (3, .int (nI (B))), (4, .int (nI (i)))] → W P l e R s m args bl mt c H locs 0 0 Q (F0 m 51 ls []) := by
                intro n
                induction n with
                | zero => intro i f1 h1 h2; exact absurd h2 (by omega)
                | succ n ih51 =>
                  intro i f1 hi51 hn51 hf1 H locs hP hS ls hl
                  refine lv_iload hx hb dX0_walkAt_51 (lv_at hl 4 rfl) ?_
                  refine lv_bipush (v := nI 10) hx hb dX0_walkAt_53 (by decide) ?_
                  refine sr_ge (tgt := 97) hx hb (by omega) (by omega) dX0_walkAt_55 (by decide) (fun c55 => ?_) (fun c55 => ?_)
                  · have hf9 : ∀ t, t < 10 → f1 t = sw_f0 p B t := fun t ht => hf1 t (by omega)
                    refine lv_iload_n hx hb dX0_walkAt_97 rfl (lv_at hl 1 rfl) ?_
                    refine lv_istore (lv' := [(4, .int (nI (c0))), (0, .ref (g 0)), (1, .int (nI (c0))), (2, .int (nI (k0))), (3, .int (nI (B)))]) hx hb dX0_walkAt_98 hl (by decide) rfl (fun ls hl => ?_)
                    refine lv_iconst (v := -1) hx hb dX0_walkAt_100 (by decide) ?_
                    refine lv_istore (lv' := [(5, .int (-1)), (4, .int (nI (c0))), (0, .ref (g 0)), (1, .int (nI (c0))), (2, .int (nI (k0))), (3, .int (nI (B)))]) hx hb dX0_walkAt_101 hl (by decide) rfl (fun ls hl => ?_)
                    refine lv_iconst (v := nI 0) hx hb dX0_walkAt_103 (by decide) ?_
                    refine lv_istore (lv' := [(6, .int (nI (0))), (5, .int (-1)), (4, .int (nI (c0))), (0, .ref (g 0)), (1, .int (nI (c0))), (2, .int (nI (k0))), (3, .int (nI (B)))]) hx hb dX0_walkAt_104 hl (by decide) rfl (fun ls hl => ?_)
                    have L106 : ∀ (n i : Nat) (f2 : Nat → Nat) (A : Nat) (s5 : Int32), i ≤ k0 + 1 → k0 + 1 + 1 ≤ i + n → (i ≤ k0 → sw_wk a b (k0 - i) f2 A = sw_wk a b k0 (sw_f0 p B) c0) → (i = k0 + 1 → s5 = sw_ov (sw_wk a b k0 (sw_f0 p B) c0)) → (A < 6) → (∀ s, s < 10 → f2 s ≤ 2) → ∀ (H : Heap) (locs : List Loc), sw_XP D g k p a b ln (u2.1) (u2.2) f2 H → va_S (sw_XA g) s.heap H locs → ∀ (ls : Array Slot), lv_has ls 7 [(0, .ref (g 0)), (1, .int (nI (c0))), (2, .int (nI (k0))), (3, .int (nI (B))), (4, .int (nI (A))), (5, .int (s5)), (6, .int (nI (i)))] → W P l e R s m args bl mt c H locs 0 0 Q (F0 m 106 ls []) := by
                      intro n
                      induction n with
                      | zero => intro i f2 A s5 h1 h2; exact absurd h2 (by omega)
                      | succ n ih106 =>
                        intro i f2 A s5 hi106 hn106 hw5 hs5 hA5 hf2 H locs hP hS ls hl
                        refine lv_iload hx hb dX0_walkAt_106 (lv_at hl 6 rfl) ?_
                        refine lv_iload_n hx hb dX0_walkAt_108 rfl (lv_at hl 2 rfl) ?_
                        refine sr_gt (tgt := 165) hx hb (by omega) (by omega) dX0_walkAt_109 (by decide) (fun c109 => ?_) (fun c109 => ?_)
                        · refine lv_iload hx hb dX0_walkAt_165 (lv_at hl 5 rfl) ?_
                          exact hret _ _ _ (u2.1, u2.2, f2) _ _ dX0_walkAt_167 (Or.inr ⟨c0, k0, B, hc0, hk0, rfl, rfl, hcon, hB0, hs5 (by omega)⟩) hP hS
                        · have hat := hA5
                          refine lv_aload_n hx hb dX0_walkAt_112 rfl (lv_at hl 0 rfl) ?_
                          refine lv_iload hx hb dX0_walkAt_113 (lv_at hl 4 rfl) ?_
                          refine xc_wi (As := [.int (nI (A))]) (n := 1) S (cX_nextStreet l D g k p a b ln (u2.1) (u2.2) f2 hg hr hat hf2) (lw_V q149 q151 qs8 q21 q152) hdX0_nextStreet (by omega) (by omega) (by decide) (Nat.zero_le _) (Nat.zero_le _) hK hP hS rfl hl.1 (Nat.le_of_ble_eq_true rfl) dX0_walkAt_115 rfl (fun r u H locs hq hP hS => ?_)
                          have hP : sw_XP D g k p a b ln (u2.1) (u2.2) f2 H := hP
                          subst hq
                          refine lv_istore (lv' := [(5, .int (sw_ov (sw_nxt a b f2 A))), (0, .ref (g 0)), (1, .int (nI (c0))), (2, .int (nI (k0))), (3, .int (nI (B))), (4, .int (nI (A))), (6, .int (nI (i)))]) hx hb dX0_walkAt_118 hl (by decide) rfl (fun ls hl => ?_)
                          refine lv_iload hx hb dX0_walkAt_120 (lv_at hl 0 rfl) ?_
                          refine lv_if_ge (tgt := 127) hx hb dX0_walkAt_122 (by decide) (fun c122 => ?_) (fun c122 => ?_)
                          · obtain ⟨s1, hs1⟩ := (sn_ov_pos sw_nxt_lt).mp c122
                            rw [hs1] at hl
                            have hl : lv_has ls 7 [(5, .int (nI (s1))), (0, .ref (g 0)), (1, .int (nI (c0))), (2, .int (nI (k0))), (3, .int (nI (B))), (4, .int (nI (A))), (6, .int (nI (i)))] := hl
                            obtain ⟨q1, q2, q3⟩ := sw_nxt_some hs1
                            obtain ⟨ha6, hb6, -⟩ := hr s1 q1
                            have hfi := hf2 s1 q1
                            refine lv_aload_n hx hb dX0_walkAt_127 rfl (lv_at hl 1 rfl) ?_
                            refine xg6 hx hb hts hown hK hP dX0_walkAt_128 ?_
                            refine lv_iload hx hb dX0_walkAt_131 (lv_at hl 0 rfl) ?_
                            refine lv_dup2_11 hx hb dX0_walkAt_133 rfl rfl ?_
                            refine xl6 hx hb hK hP (by omega) dX0_walkAt_134 ?_
                            refine lv_iconst (v := nI 1) hx hb dX0_walkAt_135 (by decide) ?_
                            refine sr_sub hx hb (by omega) dX0_walkAt_136 ?_
                            refine lv_i2b (v := nI ((f2 (s1)) - (1))) hx hb dX0_walkAt_137 (sn_i2b _ (by omega)) ?_
                            refine xs6 hx hb hK hP hg hS (by omega) (by omega) dX0_walkAt_138 (fun H locs hP hS => ?_)
                            refine lv_aload_n hx hb dX0_walkAt_139 rfl (lv_at hl 1 rfl) ?_
                            refine xg1 hx hb hts hown hK hP dX0_walkAt_140 ?_
                            refine lv_iload hx hb dX0_walkAt_143 (lv_at hl 0 rfl) ?_
                            refine xl1 hx hb hK hP (by omega) dX0_walkAt_145 ?_
                            refine lv_aload_n hx hb dX0_walkAt_146 rfl (lv_at hl 1 rfl) ?_
                            refine xg2 hx hb hts hown hK hP dX0_walkAt_147 ?_
                            refine lv_iload hx hb dX0_walkAt_150 (lv_at hl 0 rfl) ?_
                            refine xl2 hx hb hK hP (by omega) dX0_walkAt_152 ?_
                            refine sr_add hx hb dX0_walkAt_153 ?_
                            refine lv_iload hx hb dX0_walkAt_154 (lv_at hl 5 rfl) ?_
                            refine sr_sub hx hb (by omega) dX0_walkAt_156 ?_
                            refine lv_istore (lv' := [(4, .int (nI (((a (s1)) + (b (s1))) - (A)))), (5, .int (nI (s1))), (0, .ref (g 0)), (1, .int (nI (c0))), (2, .int (nI (k0))), (3, .int (nI (B))), (6, .int (nI (i)))]) hx hb dX0_walkAt_157 hl (by decide) rfl (fun ls hl => ?_)
                            refine lv_iinc (v := nI (i + 1)) (lv' := [(6, .int (nI (i + 1))), (4, .int (nI (((a (s1)) + (b (s1))) - (A)))), (5, .int (nI (s1))), (0, .ref (g 0)), (1, .int (nI (c0))), (2, .int (nI (k0))), (3, .int (nI (B)))]) hx hb dX0_walkAt_159 hl (k := 6) rfl (sn_inc (i)) (by decide) rfl (fun ls hl => ?_)
                            refine lv_goto (tgt := 106) hx hb dX0_walkAt_162 (by decide) ?_
                            exact ih106 (i + 1) (va_up f2 (s1) ((f2 (s1)) - (1))) (((a (s1)) + (b (s1))) - (A)) (nI s1) (by omega) (by omega) (fun z => by rw [← hw5 (by omega), show k0 - i = (k0 - (i + 1)) + 1 by omega, sw_wk_s hs1]) (fun z => by rw [← hw5 (by omega), show k0 - i = 0 by omega, show sw_wk a b 0 f2 A = sw_nxt a b f2 A from rfl, hs1]; rfl) (by omega) (fun t ht => by unfold va_up; have := hf2 t ht; split <;> omega) _ _ hP hS ls (lv_sub hl [3, 4, 5, 6, 1, 2, 0] rfl)
                          · refine lv_iconst (v := -1) hx hb dX0_walkAt_125 (by decide) ?_
                            exact hret _ _ _ (u2.1, u2.2, f2) _ _ dX0_walkAt_126 (Or.inr ⟨c0, k0, B, hc0, hk0, rfl, rfl, hcon, hB0, by rw [← hw5 (by omega), sw_wk_none (by cases hz : sw_nxt a b f2 A with | none => rfl | some s => exact absurd ((sn_ov_pos sw_nxt_lt).mpr ⟨s, hz⟩) c122)]; rfl⟩) hP hS
                    exact L106 (k0 + 1 + 1) (0) (f1) (c0) (-1) (by omega) (by omega) (fun _ => sw_wk_eq k0 hf9) (fun z => by omega) hc0 (fun s hs => by rw [hf9 s hs]; exact sw_f0_le p B s) _ _ hP hS ls (lv_sub hl [3, 4, 5, 6, 2, 1, 0] rfl)
                  · refine lv_aload_n hx hb dX0_walkAt_58 rfl (lv_at hl 0 rfl) ?_
                    refine lv_iload hx hb dX0_walkAt_59 (lv_at hl 4 rfl) ?_
                    refine xc_ro (As := [.int (nI (i))]) (n := 1) S (cX_has l D g k p a b ln (u2.1) (u2.2) f1 (nI i) hp) (lw_V q62 q64 qs0 q21 q65) hdX0_has (by omega) (by omega) (by decide) (Nat.zero_le _) (Nat.zero_le _) hK hP rfl hl.1 (Nat.le_of_ble_eq_true rfl) dX0_walkAt_61 rfl (fun r hq => ?_)
                    rw [sn_has_nI p (by omega)] at hq
                    subst hq
                    refine sr_bf (tgt := 71) hx hb dX0_walkAt_64 (by decide) (fun c64 => ?_) (fun c64 => ?_)
                    · refine lv_iconst (v := nI 0) hx hb dX0_walkAt_71 (by decide) ?_
                      refine lv_istore (lv' := [(5, .int (nI (0))), (0, .ref (g 0)), (1, .int (nI (c0))), (2, .int (nI (k0))), (3, .int (nI (B))), (4, .int (nI (i)))]) hx hb dX0_walkAt_72 hl (by decide) rfl (fun ls hl => ?_)
                      refine lv_aload_n hx hb dX0_walkAt_74 rfl (lv_at hl 1 rfl) ?_
                      refine xg6 hx hb hts hown hK hP dX0_walkAt_75 ?_
                      refine lv_iload hx hb dX0_walkAt_78 (lv_at hl 5 rfl) ?_
                      refine lv_iload hx hb dX0_walkAt_80 (lv_at hl 0 rfl) ?_
                      refine lv_iload_n hx hb dX0_walkAt_82 rfl (lv_at hl 4 rfl) ?_
                      refine lv_iload hx hb dX0_walkAt_83 (lv_at hl 5 rfl) ?_
                      refine sr_bit hx hb (by omega) (by omega) dX0_walkAt_85 dX0_walkAt_86 dX0_walkAt_87 ?_
                      refine sr_add hx hb dX0_walkAt_88 ?_
                      refine lv_i2b (v := nI ((0) + (Bool.toNat ((B).testBit (i))))) hx hb dX0_walkAt_89 (sn_i2b _ (by have := Bool.toNat_le (B.testBit i); omega)) ?_
                      refine xs6 hx hb hK hP hg hS (by omega) (by have := Bool.toNat_le (B.testBit i); omega) dX0_walkAt_90 (fun H locs hP hS => ?_)
                      refine lv_iinc (v := nI (i + 1)) (lv' := [(4, .int (nI (i + 1))), (5, .int (nI (0))), (0, .ref (g 0)), (1, .int (nI (c0))), (2, .int (nI (k0))), (3, .int (nI (B)))]) hx hb dX0_walkAt_91 hl (k := 5) rfl (sn_inc (i)) (by decide) rfl (fun ls hl => ?_)
                      refine lv_goto (tgt := 51) hx hb dX0_walkAt_94 (by decide) ?_
                      exact ih51 (i + 1) (va_up f1 (i) ((0) + (Bool.toNat ((B).testBit (i))))) (by omega) (by omega) (fun t ht => by
                                              by_cases e : t = i
                                              · rw [e, sn_up_at]; unfold sw_f0; rw [c64]; rfl
                                              · rw [va_up_ne _ _ e]; exact hf1 t (by omega)) _ _ hP hS ls (lv_sub hl [2, 3, 4, 5, 0] rfl)
                    · refine lv_iconst (v := nI 1) hx hb dX0_walkAt_67 (by decide) ?_
                      refine lv_goto (tgt := 72) hx hb dX0_walkAt_68 (by decide) ?_
                      refine lv_istore (lv' := [(5, .int (nI (1))), (0, .ref (g 0)), (1, .int (nI (c0))), (2, .int (nI (k0))), (3, .int (nI (B))), (4, .int (nI (i)))]) hx hb dX0_walkAt_72 hl (by decide) rfl (fun ls hl => ?_)
                      refine lv_aload_n hx hb dX0_walkAt_74 rfl (lv_at hl 1 rfl) ?_
                      refine xg6 hx hb hts hown hK hP dX0_walkAt_75 ?_
                      refine lv_iload hx hb dX0_walkAt_78 (lv_at hl 5 rfl) ?_
                      refine lv_iload hx hb dX0_walkAt_80 (lv_at hl 0 rfl) ?_
                      refine lv_iload_n hx hb dX0_walkAt_82 rfl (lv_at hl 4 rfl) ?_
                      refine lv_iload hx hb dX0_walkAt_83 (lv_at hl 5 rfl) ?_
                      refine sr_bit hx hb (by omega) (by omega) dX0_walkAt_85 dX0_walkAt_86 dX0_walkAt_87 ?_
                      refine sr_add hx hb dX0_walkAt_88 ?_
                      refine lv_i2b (v := nI ((1) + (Bool.toNat ((B).testBit (i))))) hx hb dX0_walkAt_89 (sn_i2b _ (by have := Bool.toNat_le (B.testBit i); omega)) ?_
                      refine xs6 hx hb hK hP hg hS (by omega) (by have := Bool.toNat_le (B.testBit i); omega) dX0_walkAt_90 (fun H locs hP hS => ?_)
                      refine lv_iinc (v := nI (i + 1)) (lv' := [(4, .int (nI (i + 1))), (5, .int (nI (1))), (0, .ref (g 0)), (1, .int (nI (c0))), (2, .int (nI (k0))), (3, .int (nI (B)))]) hx hb dX0_walkAt_91 hl (k := 5) rfl (sn_inc (i)) (by decide) rfl (fun ls hl => ?_)
                      refine lv_goto (tgt := 51) hx hb dX0_walkAt_94 (by decide) ?_
                      exact ih51 (i + 1) (va_up f1 (i) ((1) + (Bool.toNat ((B).testBit (i))))) (by omega) (by omega) (fun t ht => by
                                              by_cases e : t = i
                                              · rw [e, sn_up_at]; unfold sw_f0; rw [c64]; rfl
                                              · rw [va_up_ne _ _ e]; exact hf1 t (by omega)) _ _ hP hS ls (lv_sub hl [2, 3, 4, 5, 0] rfl)
              exact L51 (11) (0) (lf) (by omega) (by omega) (fun t z => absurd z (Nat.not_lt_zero t)) _ _ hP hS ls (lv_sub hl [2, 3, 4, 1, 0] rfl)
            · obtain ⟨BB, hBB⟩ := sw_best_ex (a := a) (b := b) hr hp
              refine lv_iconst (v := -1) hx hb dX0_walkAt_41 (by decide) ?_
              exact hret _ _ _ (u1.1, u1.2, lf) _ _ dX0_walkAt_42 (Or.inr ⟨c0, k0, BB, hc0, hk0, rfl, rfl, hcon, hBB, by rw [sw_wk_not (fun s _ h => sw_f0_pos hBB.1 h) c38 k0]; rfl⟩) hP hS
          · refine lv_iconst (v := -1) hx hb dX0_walkAt_24 (by decide) ?_
            exact hret _ _ _ (u1.1, u1.2, lf) _ _ dX0_walkAt_25 (Or.inl ⟨fun z => by rcases hv3 with q | q; exact q.1 z.2.2; exact c21 (by rw [q.2]; exact nI_pos' (by omega)), rfl⟩) hP hS
  rw [hH, hlo] at hgo
  exact hgo
theorem hdX0_walkAt : yX0_walkAt.cls = RX0 ∧ yX0_walkAt.cls ≠ "java/lang/invoke/MethodHandle" ∧ yX0_walkAt.cls ≠ "java/lang/invoke/VarHandle" ∧ (parseMethodDescriptor yX0_walkAt.desc).map (fun d => d.parameters.length) = some 2 := by decide +kernel
set_option maxHeartbeats 4000000 in
set_option maxRecDepth 100000 in
theorem cX_build (l : Launch) (D : va_G) (g : Nat → Nat) (k : Nat → ClassId) (p : Nat) (a b ln w pg lf : Nat → Nat) (x y z : Int32) (hg : sw_XD g) (hp : p < 1024) : Met l yX0_build (ws_ yX0_build cX0_build 5 (some .int)) (sw_rm 1) (va_Pc [.ref (g 0), .int (x), .int (y), .int (z)] (fun U => sw_XP D g k p a b ln w pg lf U.heap ∧ sw_XK D k U)) (va_Qi (fun r (u : Nat × (Nat → Nat) × (Nat → Nat) × (Nat → Nat)) => (r, u) = sw_bld p a b ln x y z) (fun (u : Nat × (Nat → Nat) × (Nat → Nat) × (Nat → Nat)) t => (fun (u : Nat × (Nat → Nat) × (Nat → Nat) × (Nat → Nat)) (H : Heap) => sw_XP D g k u.1 u.2.1 u.2.2.1 u.2.2.2 w pg lf H) u t.heap) (sw_XA g)) 0 0 (sw_XA g) := by
  refine so_wi (own := RX0) (Bw := fun (u : Nat × (Nat → Nat) × (Nat → Nat) × (Nat → Nat)) (H : Heap) => sw_XP D g k u.1 u.2.1 u.2.2.1 u.2.2.2 w pg lf H) (by decide) rfl (Nat.le_of_ble_eq_true rfl) (fun P e R s m args bl mt c Q ls S hR hL hB hl hret => ?_)
  obtain ⟨hP, hK⟩ := hB
  obtain ⟨hx, hb, hml, hown, hts⟩ := id S
  have hl : lv_has ls 5 [(0, .ref (g 0)), (1, .int (x)), (2, .int (y)), (3, .int (z))] := hl
  have hS : va_S (sw_XA g) s.heap s.heap [] := va_S.rf
  obtain ⟨H, hH⟩ : ∃ H, H = s.heap := ⟨_, rfl⟩
  obtain ⟨locs, hlo⟩ : ∃ L : List Loc, L = [] := ⟨_, rfl⟩
  have hP : sw_XP D g k p a b ln w pg lf H := by rw [hH]; exact hP
  have hS : va_S (sw_XA g) s.heap H locs := by rw [hH, hlo]; exact hS
  have hgo : W P l e R s m args bl mt c H locs 0 0 Q (F0 m 0 ls []) := by
    refine lv_iload_n hx hb dX0_build_0 rfl (lv_at hl 1 rfl) ?_
    refine lv_iload_n hx hb dX0_build_1 rfl (lv_at hl 2 rfl) ?_
    refine lv_icmp_eq (tgt := 29) hx hb dX0_build_2 (by decide) (fun c2 => ?_) (fun c2 => ?_)
    · refine lv_iconst (v := -1) hx hb dX0_build_29 (by decide) ?_
      exact hret _ _ _ (p, a, b, ln) _ _ dX0_build_30 (sw_bld_no (fun q => q.1 c2)).symm hP hS
    · refine lv_iload_n hx hb dX0_build_5 rfl (lv_at hl 1 rfl) ?_
      refine sc_st (As := [.int (x)]) (n := 1) S (cX_isCorner l x) (lw_S q59 q60 q21 q61) hdX0_isCorner (by omega) (by omega) (by decide) (Nat.zero_le _) (Nat.zero_le _) (fun _ _ _ _ q => q) (fun _ _ _ => trivial) rfl hl.1 (Nat.le_of_ble_eq_true rfl) dX0_build_6 rfl (fun r hq => ?_)
      subst hq
      refine sr_bf (tgt := 29) hx hb dX0_build_9 (by decide) (fun c9 => ?_) (fun c9 => ?_)
      · refine lv_iconst (v := -1) hx hb dX0_build_29 (by decide) ?_
        exact hret _ _ _ (p, a, b, ln) _ _ dX0_build_30 (sw_bld_no (fun q => by rw [c9] at q; exact absurd q.2.1 (by decide))).symm hP hS
      · refine lv_iload_n hx hb dX0_build_12 rfl (lv_at hl 2 rfl) ?_
        refine sc_st (As := [.int (y)]) (n := 1) S (cX_isCorner l y) (lw_S q59 q60 q21 q61) hdX0_isCorner (by omega) (by omega) (by decide) (Nat.zero_le _) (Nat.zero_le _) (fun _ _ _ _ q => q) (fun _ _ _ => trivial) rfl hl.1 (Nat.le_of_ble_eq_true rfl) dX0_build_13 rfl (fun r hq => ?_)
        subst hq
        refine sr_bf (tgt := 29) hx hb dX0_build_16 (by decide) (fun c16 => ?_) (fun c16 => ?_)
        · refine lv_iconst (v := -1) hx hb dX0_build_29 (by decide) ?_
          exact hret _ _ _ (p, a, b, ln) _ _ dX0_build_30 (sw_bld_no (fun q => by rw [c16] at q; exact absurd q.2.2.1 (by decide))).symm hP hS
        · refine lv_iload_n hx hb dX0_build_19 rfl (lv_at hl 3 rfl) ?_
          refine lv_if_lt (tgt := 29) hx hb dX0_build_20 (by decide) (fun c20 => ?_) (fun c20 => ?_)
          · refine lv_iconst (v := -1) hx hb dX0_build_29 (by decide) ?_
            exact hret _ _ _ (p, a, b, ln) _ _ dX0_build_30 (sw_bld_no (fun q => by rw [sn_in_neg c20] at q; exact absurd q.2.2.2 (by decide))).symm hP hS
          · refine lv_iload_n hx hb dX0_build_23 rfl (lv_at hl 3 rfl) ?_
            refine lv_bipush (v := nI 20) hx hb dX0_build_24 (by decide) ?_
            refine lv_icmp_le (tgt := 31) hx hb dX0_build_26 (by decide) (fun c26 => ?_) (fun c26 => ?_)
            · have hok : x ≠ y ∧ sw_inb x 6 = true ∧ sw_inb y 6 = true ∧ sw_inb z 21 = true := ⟨c2, c9, c16, sn_in_21 c20 c26⟩
              obtain ⟨x0, hx0, rfl⟩ := sn_in_t (by decide) c9
              obtain ⟨y0, hy0, rfl⟩ := sn_in_t (by decide) c16
              obtain ⟨z0, hz0, rfl⟩ := sn_in_t (by decide) (sn_in_21 c20 c26)
              refine lv_iconst (v := nI 0) hx hb dX0_build_31 (by decide) ?_
              refine lv_istore (lv' := [(4, .int (nI (0))), (0, .ref (g 0)), (1, .int (nI (x0))), (2, .int (nI (y0))), (3, .int (nI (z0)))]) hx hb dX0_build_32 hl (by decide) rfl (fun ls hl => ?_)
              have L34 : ∀ (n i : Nat), i ≤ 10 → 11 ≤ i + n → (sw_nx (fun s => !p.testBit s) (10 - i) i = sw_nx (fun s => !p.testBit s) 10 0) → ∀ (H : Heap) (locs : List Loc), sw_XP D g k p a b ln w pg lf H → va_S (sw_XA g) s.heap H locs → ∀ (ls : Array Slot), lv_has ls 5 [(0, .ref (g 0)), (1, .int (nI (x0))), (2, .int (nI (y0))), (3, .int (nI (z0))), (4, .int (nI (i)))] → W P l e R s m args bl mt c H locs 0 0 Q (F0 m 34 ls []) := by
                intro n
                induction n with
                | zero => intro i h1 h2; exact absurd h2 (by omega)
                | succ n ih34 =>
                  intro i hi34 hn34 hn H locs hP hS ls hl
                  refine lv_iload hx hb dX0_build_34 (lv_at hl 4 rfl) ?_
                  refine lv_bipush (v := nI 10) hx hb dX0_build_36 (by decide) ?_
                  refine sr_ge (tgt := 99) hx hb (by omega) (by omega) dX0_build_38 (by decide) (fun c38 => ?_) (fun c38 => ?_)
                  · refine lv_bipush (v := -2) hx hb dX0_build_99 (by decide) ?_
                    exact hret _ _ _ (p, a, b, ln) _ _ dX0_build_101 (sw_bld_full hok (by rw [← hn, show i = 10 by omega]; rfl)).symm hP hS
                  · refine lv_aload_n hx hb dX0_build_41 rfl (lv_at hl 0 rfl) ?_
                    refine lv_iload hx hb dX0_build_42 (lv_at hl 4 rfl) ?_
                    refine xc_ro (As := [.int (nI (i))]) (n := 1) S (cX_has l D g k p a b ln w pg lf (nI i) hp) (lw_V q62 q64 qs0 q21 q65) hdX0_has (by omega) (by omega) (by decide) (Nat.zero_le _) (Nat.zero_le _) hK hP rfl hl.1 (Nat.le_of_ble_eq_true rfl) dX0_build_44 rfl (fun r hq => ?_)
                    rw [sn_has_nI p (by omega)] at hq
                    subst hq
                    refine sr_bt (tgt := 93) hx hb dX0_build_47 (by decide) (fun c47 => ?_) (fun c47 => ?_)
                    · refine lv_iinc (v := nI (i + 1)) (lv' := [(4, .int (nI (i + 1))), (0, .ref (g 0)), (1, .int (nI (x0))), (2, .int (nI (y0))), (3, .int (nI (z0)))]) hx hb dX0_build_93 hl (k := 4) rfl (sn_inc (i)) (by decide) rfl (fun ls hl => ?_)
                      refine lv_goto (tgt := 34) hx hb dX0_build_96 (by decide) ?_
                      exact ih34 (i + 1) (by omega) (by omega) (by rw [← hn]; exact (sw_nx_n (by omega) (by rw [c47]; rfl)).symm) _ _ hP hS ls (lv_sub hl [1, 2, 3, 4, 0] rfl)
                    · refine lv_aload_n hx hb dX0_build_50 rfl (lv_at hl 0 rfl) ?_
                      refine lv_dup hx hb dX0_build_51 rfl ?_
                      refine xg0 hx hb hts hown hK hP dX0_build_52 ?_
                      refine lv_iconst (v := nI 1) hx hb dX0_build_55 (by decide) ?_
                      refine lv_iload hx hb dX0_build_56 (lv_at hl 4 rfl) ?_
                      refine sr_shl hx hb (by omega) dX0_build_58 ?_
                      refine sr_or hx hb dX0_build_59 ?_
                      refine xput hx hb hts hown hK hP hg hS dX0_build_60 (fun H locs hP hS => ?_)
                      refine lv_aload_n hx hb dX0_build_63 rfl (lv_at hl 0 rfl) ?_
                      refine xg1 hx hb hts hown hK hP dX0_build_64 ?_
                      refine lv_iload hx hb dX0_build_67 (lv_at hl 4 rfl) ?_
                      refine lv_iload_n hx hb dX0_build_69 rfl (lv_at hl 1 rfl) ?_
                      refine lv_i2b (v := nI (x0)) hx hb dX0_build_70 (sn_i2b _ (by omega)) ?_
                      refine xs1 hx hb hK hP hg hS (by omega) (by omega) dX0_build_71 (fun H locs hP hS => ?_)
                      refine lv_aload_n hx hb dX0_build_72 rfl (lv_at hl 0 rfl) ?_
                      refine xg2 hx hb hts hown hK hP dX0_build_73 ?_
                      refine lv_iload hx hb dX0_build_76 (lv_at hl 4 rfl) ?_
                      refine lv_iload_n hx hb dX0_build_78 rfl (lv_at hl 2 rfl) ?_
                      refine lv_i2b (v := nI (y0)) hx hb dX0_build_79 (sn_i2b _ (by omega)) ?_
                      refine xs2 hx hb hK hP hg hS (by omega) (by omega) dX0_build_80 (fun H locs hP hS => ?_)
                      refine lv_aload_n hx hb dX0_build_81 rfl (lv_at hl 0 rfl) ?_
                      refine xg3 hx hb hts hown hK hP dX0_build_82 ?_
                      refine lv_iload hx hb dX0_build_85 (lv_at hl 4 rfl) ?_
                      refine lv_iload_n hx hb dX0_build_87 rfl (lv_at hl 3 rfl) ?_
                      refine lv_i2b (v := nI (z0)) hx hb dX0_build_88 (sn_i2b _ (by omega)) ?_
                      refine xs3 hx hb hK hP hg hS (by omega) (by omega) dX0_build_89 (fun H locs hP hS => ?_)
                      refine lv_iload hx hb dX0_build_90 (lv_at hl 4 rfl) ?_
                      exact hret _ _ _ ((p) ||| (2 ^ (i)), va_up a (i) (x0), va_up b (i) (y0), va_up ln (i) (z0)) _ _ dX0_build_92 (by rw [sw_bld_some hok (s := i) (by rw [← hn]; exact sw_nx_s (by omega) (by rw [c47]; rfl)), nI_clamp (by omega), nI_clamp (by omega), nI_clamp (by omega)]) hP hS
              exact L34 (11) (0) (by omega) (by omega) rfl _ _ hP hS ls (lv_sub hl [1, 2, 3, 4, 0] rfl)
            · refine lv_iconst (v := -1) hx hb dX0_build_29 (by decide) ?_
              exact hret _ _ _ (p, a, b, ln) _ _ dX0_build_30 (sw_bld_no (fun q => by rw [sn_in_21f c26] at q; exact absurd q.2.2.2 (by decide))).symm hP hS
  rw [hH, hlo] at hgo
  exact hgo
theorem hdX0_build : yX0_build.cls = RX0 ∧ yX0_build.cls ≠ "java/lang/invoke/MethodHandle" ∧ yX0_build.cls ≠ "java/lang/invoke/VarHandle" ∧ (parseMethodDescriptor yX0_build.desc).map (fun d => d.parameters.length) = some 3 := by decide +kernel
set_option maxHeartbeats 4000000 in
set_option maxRecDepth 100000 in
theorem cX_close (l : Launch) (D : va_G) (g : Nat → Nat) (k : Nat → ClassId) (p : Nat) (a b ln w pg lf : Nat → Nat) (x : Int32) (hg : sw_XD g) (hp : p < 1024) : Met l yX0_close (ws_ yX0_close cX0_close 2 (some .boolean)) (sw_rm 1) (va_Pc [.ref (g 0), .int (x)] (fun U => sw_XP D g k p a b ln w pg lf U.heap ∧ sw_XK D k U)) (va_Qi (fun r (u : Nat) => r = nI (Bool.toNat (sw_has p x)) ∧ u = sw_cls p x) (fun (u : Nat) t => (fun (u : Nat) (H : Heap) => sw_XP D g k u a b ln w pg lf H) u t.heap) (sw_XA g)) 0 0 (sw_XA g) := by
  refine so_wz (own := RX0) (Bw := fun (u : Nat) (H : Heap) => sw_XP D g k u a b ln w pg lf H) (by decide) rfl (Nat.le_of_ble_eq_true rfl) (fun v u h => ⟨_, h.1⟩) (fun P e R s m args bl mt c Q ls S hR hL hB hl hret => ?_)
  obtain ⟨hP, hK⟩ := hB
  obtain ⟨hx, hb, hml, hown, hts⟩ := id S
  have hl : lv_has ls 2 [(0, .ref (g 0)), (1, .int (x))] := hl
  have hS : va_S (sw_XA g) s.heap s.heap [] := va_S.rf
  obtain ⟨H, hH⟩ : ∃ H, H = s.heap := ⟨_, rfl⟩
  obtain ⟨locs, hlo⟩ : ∃ L : List Loc, L = [] := ⟨_, rfl⟩
  have hP : sw_XP D g k p a b ln w pg lf H := by rw [hH]; exact hP
  have hS : va_S (sw_XA g) s.heap H locs := by rw [hH, hlo]; exact hS
  have hgo : W P l e R s m args bl mt c H locs 0 0 Q (F0 m 0 ls []) := by
    refine lv_aload_n hx hb dX0_close_0 rfl (lv_at hl 0 rfl) ?_
    refine lv_iload_n hx hb dX0_close_1 rfl (lv_at hl 1 rfl) ?_
    refine xc_ro (As := [.int (x)]) (n := 1) S (cX_has l D g k p a b ln w pg lf x hp) (lw_V q62 q64 qs0 q21 q65) hdX0_has (by omega) (by omega) (by decide) (Nat.zero_le _) (Nat.zero_le _) hK hP rfl hl.1 (Nat.le_of_ble_eq_true rfl) dX0_close_2 rfl (fun r hq => ?_)
    subst hq
    refine sr_bt (tgt := 10) hx hb dX0_close_5 (by decide) (fun c5 => ?_) (fun c5 => ?_)
    · obtain ⟨s0, hs0, rfl, hps⟩ := sn_has_t c5
      refine lv_aload_n hx hb dX0_close_10 rfl (lv_at hl 0 rfl) ?_
      refine lv_dup hx hb dX0_close_11 rfl ?_
      refine xg0 hx hb hts hown hK hP dX0_close_12 ?_
      refine lv_iconst (v := nI 1) hx hb dX0_close_15 (by decide) ?_
      refine lv_iload_n hx hb dX0_close_16 rfl (lv_at hl 1 rfl) ?_
      refine sr_shl hx hb (by omega) dX0_close_17 ?_
      refine sr_not hx hb dX0_close_18 dX0_close_19 dX0_close_20 ?_
      refine xput hx hb hts hown hK hP hg hS dX0_close_21 (fun H locs hP hS => ?_)
      refine lv_iconst (v := nI 1) hx hb dX0_close_24 (by decide) ?_
      exact hret _ _ _ (sw_an (p) (2 ^ (s0))) _ _ dX0_close_25 ⟨by rw [c5]; rfl, by unfold sw_cls; rw [c5, nI_clamp (by omega)]; rfl⟩ hP hS
    · refine lv_iconst (v := nI 0) hx hb dX0_close_8 (by decide) ?_
      exact hret _ _ _ p _ _ dX0_close_9 ⟨by rw [c5]; rfl, by unfold sw_cls; rw [c5]; rfl⟩ hP hS
  rw [hH, hlo] at hgo
  exact hgo
theorem hdX0_close : yX0_close.cls = RX0 ∧ yX0_close.cls ≠ "java/lang/invoke/MethodHandle" ∧ yX0_close.cls ≠ "java/lang/invoke/VarHandle" ∧ (parseMethodDescriptor yX0_close.desc).map (fun d => d.parameters.length) = some 1 := by decide +kernel
set_option maxHeartbeats 4000000 in
set_option maxRecDepth 100000 in
theorem cX_setLength (l : Launch) (D : va_G) (g : Nat → Nat) (k : Nat → ClassId) (p : Nat) (a b ln w pg lf : Nat → Nat) (x z : Int32) (hg : sw_XD g) (hp : p < 1024) : Met l yX0_setLength (ws_ yX0_setLength cX0_setLength 3 (some .boolean)) (sw_rm 1) (va_Pc [.ref (g 0), .int (x), .int (z)] (fun U => sw_XP D g k p a b ln w pg lf U.heap ∧ sw_XK D k U)) (va_Qi (fun r (u : Nat → Nat) => r = nI (Bool.toNat (sw_has p x && sw_inb z 21)) ∧ u = sw_stl p ln x z) (fun (u : Nat → Nat) t => (fun (u : Nat → Nat) (H : Heap) => sw_XP D g k p a b u w pg lf H) u t.heap) (sw_XA g)) 0 0 (sw_XA g) := by
  refine so_wz (own := RX0) (Bw := fun (u : Nat → Nat) (H : Heap) => sw_XP D g k p a b u w pg lf H) (by decide) rfl (Nat.le_of_ble_eq_true rfl) (fun v u h => ⟨_, h.1⟩) (fun P e R s m args bl mt c Q ls S hR hL hB hl hret => ?_)
  obtain ⟨hP, hK⟩ := hB
  obtain ⟨hx, hb, hml, hown, hts⟩ := id S
  have hl : lv_has ls 3 [(0, .ref (g 0)), (1, .int (x)), (2, .int (z))] := hl
  have hS : va_S (sw_XA g) s.heap s.heap [] := va_S.rf
  obtain ⟨H, hH⟩ : ∃ H, H = s.heap := ⟨_, rfl⟩
  obtain ⟨locs, hlo⟩ : ∃ L : List Loc, L = [] := ⟨_, rfl⟩
  have hP : sw_XP D g k p a b ln w pg lf H := by rw [hH]; exact hP
  have hS : va_S (sw_XA g) s.heap H locs := by rw [hH, hlo]; exact hS
  have hgo : W P l e R s m args bl mt c H locs 0 0 Q (F0 m 0 ls []) := by
    refine lv_aload_n hx hb dX0_setLength_0 rfl (lv_at hl 0 rfl) ?_
    refine lv_iload_n hx hb dX0_setLength_1 rfl (lv_at hl 1 rfl) ?_
    refine xc_ro (As := [.int (x)]) (n := 1) S (cX_has l D g k p a b ln w pg lf x hp) (lw_V q62 q64 qs0 q21 q65) hdX0_has (by omega) (by omega) (by decide) (Nat.zero_le _) (Nat.zero_le _) hK hP rfl hl.1 (Nat.le_of_ble_eq_true rfl) dX0_setLength_2 rfl (fun r hq => ?_)
    subst hq
    refine sr_bf (tgt := 18) hx hb dX0_setLength_5 (by decide) (fun c5 => ?_) (fun c5 => ?_)
    · refine lv_iconst (v := nI 0) hx hb dX0_setLength_18 (by decide) ?_
      exact hret _ _ _ ln _ _ dX0_setLength_19 ⟨by rw [c5, Bool.false_and]; rfl, by unfold sw_stl; rw [c5, Bool.false_and]; rfl⟩ hP hS
    · refine lv_iload_n hx hb dX0_setLength_8 rfl (lv_at hl 2 rfl) ?_
      refine lv_if_lt (tgt := 18) hx hb dX0_setLength_9 (by decide) (fun c9 => ?_) (fun c9 => ?_)
      · refine lv_iconst (v := nI 0) hx hb dX0_setLength_18 (by decide) ?_
        exact hret _ _ _ ln _ _ dX0_setLength_19 ⟨by rw [sn_in_neg c9, Bool.and_false]; rfl, by unfold sw_stl; rw [sn_in_neg c9, Bool.and_false]; rfl⟩ hP hS
      · refine lv_iload_n hx hb dX0_setLength_12 rfl (lv_at hl 2 rfl) ?_
        refine lv_bipush (v := nI 20) hx hb dX0_setLength_13 (by decide) ?_
        refine lv_icmp_le (tgt := 20) hx hb dX0_setLength_15 (by decide) (fun c15 => ?_) (fun c15 => ?_)
        · have hok : (sw_has p x && sw_inb z 21) = true := by rw [c5, sn_in_21 c9 c15]; rfl
          obtain ⟨s0, hs0, rfl, hps⟩ := sn_has_t c5
          obtain ⟨z0, hz0, rfl⟩ := sn_in_t (by decide) (sn_in_21 c9 c15)
          refine lv_aload_n hx hb dX0_setLength_20 rfl (lv_at hl 0 rfl) ?_
          refine xg3 hx hb hts hown hK hP dX0_setLength_21 ?_
          refine lv_iload_n hx hb dX0_setLength_24 rfl (lv_at hl 1 rfl) ?_
          refine lv_iload_n hx hb dX0_setLength_25 rfl (lv_at hl 2 rfl) ?_
          refine lv_i2b (v := nI (z0)) hx hb dX0_setLength_26 (sn_i2b _ (by omega)) ?_
          refine xs3 hx hb hK hP hg hS (by omega) (by omega) dX0_setLength_27 (fun H locs hP hS => ?_)
          refine lv_iconst (v := nI 1) hx hb dX0_setLength_28 (by decide) ?_
          exact hret _ _ _ (va_up ln (s0) (z0)) _ _ dX0_setLength_29 ⟨by rw [hok]; rfl, by unfold sw_stl; rw [hok, nI_clamp (by omega), nI_clamp (by omega)]; rfl⟩ hP hS
        · refine lv_iconst (v := nI 0) hx hb dX0_setLength_18 (by decide) ?_
          exact hret _ _ _ ln _ _ dX0_setLength_19 ⟨by rw [sn_in_21f c15, Bool.and_false]; rfl, by unfold sw_stl; rw [sn_in_21f c15, Bool.and_false]; rfl⟩ hP hS
  rw [hH, hlo] at hgo
  exact hgo
theorem hdX0_setLength : yX0_setLength.cls = RX0 ∧ yX0_setLength.cls ≠ "java/lang/invoke/MethodHandle" ∧ yX0_setLength.cls ≠ "java/lang/invoke/VarHandle" ∧ (parseMethodDescriptor yX0_setLength.desc).map (fun d => d.parameters.length) = some 2 := by decide +kernel
end
section
/-! CONTRACTS of StreetWalkerModel: what only reads -/
theorem sw_rs_bit (f : Nat → Nat) (i : Nat) : ∀ n, (sw_rs f n).testBit i = (decide (i < n) && decide (0 < f i))
  | 0 => by simp [sw_rs]
  | n + 1 => by
    have ih := sw_rs_bit f i n
    rcases Nat.lt_trichotomy i n with h | h | h
    · rw [decide_eq_true h] at ih
      rw [decide_eq_true (Nat.lt_succ_of_lt h)]
      unfold sw_rs
      split
      · rw [Nat.testBit_or, ih, Nat.testBit_two_pow_of_ne (by omega)]
        simp
      · exact ih
    · subst h
      rw [decide_eq_false (Nat.lt_irrefl i)] at ih
      rw [decide_eq_true (Nat.lt_succ_self i)]
      unfold sw_rs
      split
      · rename_i hb
        rw [Nat.testBit_or, ih, Nat.testBit_two_pow_self, decide_eq_true hb]
        rfl
      · rename_i hb
        rw [ih, decide_eq_false hb]
        rfl
    · rw [decide_eq_false (by omega : ¬ i < n)] at ih
      rw [decide_eq_false (by omega : ¬ i < n + 1)]
      unfold sw_rs
      split
      · rw [Nat.testBit_or, ih, Nat.testBit_two_pow_of_ne (by omega)]
        rfl
      · exact ih
theorem sw_rs_bf {p : Nat} (hp : p < 1024) : sw_rs (sw_bf p) 10 = p := by
  apply Nat.eq_of_testBit_eq
  intro i
  rw [sw_rs_bit]
  unfold sw_bf
  cases hb : p.testBit i with
  | false => simp
  | true => simp [sw_bit_lt (k := 10) (by omega) hb]
theorem sw_bf_0 {p i : Nat} (h : p.testBit i = false) : sw_bf p i = 0 := by unfold sw_bf; rw [h]; rfl
theorem sw_bf_1 {p i : Nat} (h : p.testBit i = true) : 0 < sw_bf p i := by unfold sw_bf; rw [h]; decide
theorem sn_shb {b : Bool} {i : Nat} (hi : i < 31) : nI b.toNat <<< (nI i &&& 31) = nI (if b = true then 2 ^ i else 0) := by
  cases b with
  | true => exact sn_p hi
  | false =>
    rw [sn_shl (by omega) (by simp)]
    simp
theorem sw_so_s (k n : Nat) : sw_so k (n + 1) = sw_so k n ||| (if k.testBit (9 - n) = true then 2 ^ n else 0) := by
  show (if k.testBit (9 - n) = true then sw_so k n ||| 2 ^ n else sw_so k n) = _
  split
  · rfl
  · rw [Nat.or_zero]
theorem sw_al_s (a : Nat → Nat) (X R n : Nat) : sw_al a X R (n + 1) = (sw_al a X R n && (!X.testBit n || R.testBit (a n))) := rfl
theorem sw_and_sub {x y : Nat} : x &&& y = y ↔ sw_sub y x := by
  constructor
  · intro h i hi
    rw [← h, Nat.testBit_and, Bool.and_eq_true] at hi
    exact hi.1
  · intro h
    apply Nat.eq_of_testBit_eq
    intro i
    rw [Nat.testBit_and]
    cases hy : y.testBit i with
    | false => simp
    | true => simp [h i hy]
theorem sw_fi_lt {a b l : Nat → Nat} {p must never n : Nat} {o : Option Nat} (h : sw_fi a b l p must never n o) : ∀ B, o = some B → B < 1024 := by
  intro B e
  subst e
  obtain ⟨kb, -, h2, -⟩ := h
  rw [h2]
  exact sw_so_lt kb
theorem sw_p1024 {s : Nat} (h : s < 10) : 2 ^ s < 1024 := Nat.pow_lt_pow_right (by decide) h (n := 10)
/-- the length of the set found, or -1 -/
def sw_ol (ln : Nat → Nat) (o : Option Nat) : Int32 := match o with
  | none => -1
  | some B => nI (sw_ln ln B 10)
set_option maxHeartbeats 4000000 in
set_option maxRecDepth 100000 in
theorem cM_corner (l : Launch) (D : va_G) (g : Nat → Nat) (k : Nat → ClassId) (p : Nat) (a b ln lf nr : Nat → Nat) (x : Int32) : Met l yX1_corner (ws_ yX1_corner cX1_corner 2 (some .boolean)) (sw_rm 0) (va_Pc [.ref (g 0), .int (x)] (fun U => sw_MP D g k p a b ln lf nr U.heap ∧ sw_MK D k U)) (vp_Si (fun r => r = nI (Bool.toNat (sw_inb x 6)))) 0 0 (fun _ => False) := by
  refine so_z (own := RX1) (by decide) rfl (Nat.le_of_ble_eq_true rfl) (fun v h => ⟨_, h⟩) (fun P e R s m args bl mt c Q ls S hR hL hB hl hret => ?_)
  obtain ⟨hP, hK⟩ := hB
  obtain ⟨hx, hb, hml, hown, hts⟩ := id S
  have hl : lv_has ls 2 [(0, .ref (g 0)), (1, .int (x))] := hl
  refine lv_iload_n hx hb dX1_corner_0 rfl (lv_at hl 1 rfl) ?_
  refine lv_if_lt (tgt := 14) hx hb dX1_corner_1 (by decide) (fun c1 => ?_) (fun c1 => ?_)
  · refine lv_iconst (v := nI 0) hx hb dX1_corner_14 (by decide) ?_
    exact hret _ _ _ dX1_corner_15 (by rw [sn_in_neg c1]; rfl)
  · refine lv_iload_n hx hb dX1_corner_4 rfl (lv_at hl 1 rfl) ?_
    refine lv_bipush (v := nI 6) hx hb dX1_corner_5 (by decide) ?_
    refine lv_icmp_ge (tgt := 14) hx hb dX1_corner_7 (by decide) (fun c7 => ?_) (fun c7 => ?_)
    · refine lv_iconst (v := nI 0) hx hb dX1_corner_14 (by decide) ?_
      exact hret _ _ _ dX1_corner_15 (by rw [sn_in_ge c7]; rfl)
    · refine lv_iconst (v := nI 1) hx hb dX1_corner_10 (by decide) ?_
      refine lv_goto (tgt := 15) hx hb dX1_corner_11 (by decide) ?_
      exact hret _ _ _ dX1_corner_15 (by rw [sn_in_ok c1 c7]; rfl)
theorem hdX1_corner : yX1_corner.cls = RX1 ∧ yX1_corner.cls ≠ "java/lang/invoke/MethodHandle" ∧ yX1_corner.cls ≠ "java/lang/invoke/VarHandle" ∧ (parseMethodDescriptor yX1_corner.desc).map (fun d => d.parameters.length) = some 1 := by decide +kernel
set_option maxHeartbeats 4000000 in
set_option maxRecDepth 100000 in
theorem cM_street (l : Launch) (D : va_G) (g : Nat → Nat) (k : Nat → ClassId) (p : Nat) (a b ln lf nr : Nat → Nat) (x : Int32) : Met l yX1_street (ws_ yX1_street cX1_street 2 (some .boolean)) (sw_rm 0) (va_Pc [.ref (g 0), .int (x)] (fun U => sw_MP D g k p a b ln lf nr U.heap ∧ sw_MK D k U)) (vp_Si (fun r => r = nI (Bool.toNat (sw_has p x)))) 0 0 (fun _ => False) := by
  refine so_z (own := RX1) (by decide) rfl (Nat.le_of_ble_eq_true rfl) (fun v h => ⟨_, h⟩) (fun P e R s m args bl mt c Q ls S hR hL hB hl hret => ?_)
  obtain ⟨hP, hK⟩ := hB
  obtain ⟨hx, hb, hml, hown, hts⟩ := id S
  have hl : lv_has ls 2 [(0, .ref (g 0)), (1, .int (x))] := hl
  refine lv_iload_n hx hb dX1_street_0 rfl (lv_at hl 1 rfl) ?_
  refine lv_if_lt (tgt := 23) hx hb dX1_street_1 (by decide) (fun c1 => ?_) (fun c1 => ?_)
  · refine lv_iconst (v := nI 0) hx hb dX1_street_23 (by decide) ?_
    exact hret _ _ _ dX1_street_24 (by rw [sn_has_f (sn_in_neg c1)]; rfl)
  · refine lv_iload_n hx hb dX1_street_4 rfl (lv_at hl 1 rfl) ?_
    refine lv_bipush (v := nI 10) hx hb dX1_street_5 (by decide) ?_
    refine lv_icmp_ge (tgt := 23) hx hb dX1_street_7 (by decide) (fun c7 => ?_) (fun c7 => ?_)
    · refine lv_iconst (v := nI 0) hx hb dX1_street_23 (by decide) ?_
      exact hret _ _ _ dX1_street_24 (by rw [sn_has_f (sn_in_ge c7)]; rfl)
    · obtain ⟨s0, hs0, rfl⟩ := sn_in_t (by decide) (sn_in_ok c1 c7)
      refine lv_aload_n hx hb dX1_street_10 rfl (lv_at hl 0 rfl) ?_
      refine mg1 hx hb hts hown hK hP dX1_street_11 ?_
      refine lv_iload_n hx hb dX1_street_14 rfl (lv_at hl 1 rfl) ?_
      refine ml1 hx hb hK hP (by omega) dX1_street_15 ?_
      refine sr_bf (tgt := 23) hx hb dX1_street_16 (by decide) (fun c16 => ?_) (fun c16 => ?_)
      · refine lv_iconst (v := nI 0) hx hb dX1_street_23 (by decide) ?_
        exact hret _ _ _ dX1_street_24 (by rw [sn_has_nI p hs0, c16]; rfl)
      · refine lv_iconst (v := nI 1) hx hb dX1_street_19 (by decide) ?_
        refine lv_goto (tgt := 24) hx hb dX1_street_20 (by decide) ?_
        exact hret _ _ _ dX1_street_24 (by rw [sn_has_nI p hs0, c16]; rfl)
theorem hdX1_street : yX1_street.cls = RX1 ∧ yX1_street.cls ≠ "java/lang/invoke/MethodHandle" ∧ yX1_street.cls ≠ "java/lang/invoke/VarHandle" ∧ (parseMethodDescriptor yX1_street.desc).map (fun d => d.parameters.length) = some 1 := by decide +kernel
set_option maxHeartbeats 4000000 in
set_option maxRecDepth 100000 in
theorem cM_streets (l : Launch) (D : va_G) (g : Nat → Nat) (k : Nat → ClassId) (p : Nat) (a b ln lf nr : Nat → Nat)  (hp : p < 1024) : Met l yX1_streets (ws_ yX1_streets cX1_streets 3 (some .int)) (sw_rm 0) (va_Pc [.ref (g 0)] (fun U => sw_MP D g k p a b ln lf nr U.heap ∧ sw_MK D k U)) (vp_Si (fun r => r = nI p)) 0 0 (fun _ => False) := by
  refine so_i (own := RX1) (by decide) rfl (Nat.le_of_ble_eq_true rfl) (fun P e R s m args bl mt c Q ls S hR hL hB hl hret => ?_)
  obtain ⟨hP, hK⟩ := hB
  obtain ⟨hx, hb, hml, hown, hts⟩ := id S
  have hl : lv_has ls 3 [(0, .ref (g 0))] := hl
  refine lv_iconst (v := nI 0) hx hb dX1_streets_0 (by decide) ?_
  refine lv_istore_n (lv' := [(1, .int (nI (0))), (0, .ref (g 0))]) hx hb dX1_streets_1 rfl hl (by decide) rfl (fun ls hl => ?_)
  refine lv_iconst (v := nI 0) hx hb dX1_streets_2 (by decide) ?_
  refine lv_istore_n (lv' := [(2, .int (nI (0))), (1, .int (nI (0))), (0, .ref (g 0))]) hx hb dX1_streets_3 rfl hl (by decide) rfl (fun ls hl => ?_)
  have L4 : ∀ (n i : Nat) (x1 : Nat), i ≤ 10 → 11 ≤ i + n → (x1 = sw_rs (sw_bf p) i) → ∀ (ls : Array Slot), lv_has ls 3 [(0, .ref (g 0)), (1, .int (nI (x1))), (2, .int (nI (i)))] → W P l e R s m args bl mt c s.heap [] 0 0 Q (F0 m 4 ls []) := by
    intro n
    induction n with
    | zero => intro i x1 h1 h2; exact absurd h2 (by omega)
    | succ n ih4 =>
      intro i x1 hi4 hn4 hc ls hl
      refine lv_iload_n hx hb dX1_streets_4 rfl (lv_at hl 2 rfl) ?_
      refine lv_bipush (v := nI 10) hx hb dX1_streets_5 (by decide) ?_
      refine sr_ge (tgt := 35) hx hb (by omega) (by omega) dX1_streets_7 (by decide) (fun c7 => ?_) (fun c7 => ?_)
      · refine lv_iload_n hx hb dX1_streets_35 rfl (lv_at hl 1 rfl) ?_
        exact hret _ _ _ dX1_streets_36 (by rw [hc, show i = 10 by omega, sw_rs_bf hp])
      · refine lv_iload_n hx hb dX1_streets_10 rfl (lv_at hl 1 rfl) ?_
        refine lv_aload_n hx hb dX1_streets_11 rfl (lv_at hl 0 rfl) ?_
        refine mg1 hx hb hts hown hK hP dX1_streets_12 ?_
        refine lv_iload_n hx hb dX1_streets_15 rfl (lv_at hl 2 rfl) ?_
        refine ml1 hx hb hK hP (by omega) dX1_streets_16 ?_
        refine sr_bf (tgt := 26) hx hb dX1_streets_17 (by decide) (fun c17 => ?_) (fun c17 => ?_)
        · refine lv_iconst (v := nI 0) hx hb dX1_streets_26 (by decide) ?_
          refine sr_or hx hb dX1_streets_27 ?_
          refine lv_istore_n (lv' := [(1, .int (nI (x1 ||| 0))), (0, .ref (g 0)), (2, .int (nI (i)))]) hx hb dX1_streets_28 rfl hl (by decide) rfl (fun ls hl => ?_)
          refine lv_iinc (v := nI (i + 1)) (lv' := [(2, .int (nI (i + 1))), (1, .int (nI (x1 ||| 0))), (0, .ref (g 0))]) hx hb dX1_streets_29 hl (k := 2) rfl (sn_inc (i)) (by decide) rfl (fun ls hl => ?_)
          refine lv_goto (tgt := 4) hx hb dX1_streets_32 (by decide) ?_
          exact ih4 (i + 1) (x1 ||| 0) (by omega) (by omega) (by rw [Nat.or_zero, hc, sw_rs_s0 (sw_bf_0 c17)]) ls (lv_sub hl [2, 1, 0] rfl)
        · refine lv_iconst (v := nI 1) hx hb dX1_streets_20 (by decide) ?_
          refine lv_iload_n hx hb dX1_streets_21 rfl (lv_at hl 2 rfl) ?_
          refine sr_shl hx hb (by omega) dX1_streets_22 ?_
          refine lv_goto (tgt := 27) hx hb dX1_streets_23 (by decide) ?_
          refine sr_or hx hb dX1_streets_27 ?_
          refine lv_istore_n (lv' := [(1, .int (nI ((x1) ||| (2 ^ (i))))), (0, .ref (g 0)), (2, .int (nI (i)))]) hx hb dX1_streets_28 rfl hl (by decide) rfl (fun ls hl => ?_)
          refine lv_iinc (v := nI (i + 1)) (lv' := [(2, .int (nI (i + 1))), (1, .int (nI ((x1) ||| (2 ^ (i))))), (0, .ref (g 0))]) hx hb dX1_streets_29 hl (k := 2) rfl (sn_inc (i)) (by decide) rfl (fun ls hl => ?_)
          refine lv_goto (tgt := 4) hx hb dX1_streets_32 (by decide) ?_
          exact ih4 (i + 1) ((x1) ||| (2 ^ (i))) (by omega) (by omega) (by rw [hc, sw_rs_s1 (sw_bf_1 c17)]) ls (lv_sub hl [2, 1, 0] rfl)
  exact L4 (11) (0) (0) (by omega) (by omega) rfl ls (lv_sub hl [2, 1, 0] rfl)
theorem hdX1_streets : yX1_streets.cls = RX1 ∧ yX1_streets.cls ≠ "java/lang/invoke/MethodHandle" ∧ yX1_streets.cls ≠ "java/lang/invoke/VarHandle" ∧ (parseMethodDescriptor yX1_streets.desc).map (fun d => d.parameters.length) = some 0 := by decide +kernel
set_option maxHeartbeats 4000000 in
set_option maxRecDepth 100000 in
theorem cM_rest (l : Launch) (D : va_G) (g : Nat → Nat) (k : Nat → ClassId) (p : Nat) (a b ln lf nr : Nat → Nat)  (hlf : ∀ s, s < 10 → lf s ≤ 2) : Met l yX1_rest (ws_ yX1_rest cX1_rest 3 (some .int)) (sw_rm 0) (va_Pc [.ref (g 0)] (fun U => sw_MP D g k p a b ln lf nr U.heap ∧ sw_MK D k U)) (vp_Si (fun r => r = nI (sw_rs lf 10))) 0 0 (fun _ => False) := by
  refine so_i (own := RX1) (by decide) rfl (Nat.le_of_ble_eq_true rfl) (fun P e R s m args bl mt c Q ls S hR hL hB hl hret => ?_)
  obtain ⟨hP, hK⟩ := hB
  obtain ⟨hx, hb, hml, hown, hts⟩ := id S
  have hl : lv_has ls 3 [(0, .ref (g 0))] := hl
  refine lv_iconst (v := nI 0) hx hb dX1_rest_0 (by decide) ?_
  refine lv_istore_n (lv' := [(1, .int (nI (0))), (0, .ref (g 0))]) hx hb dX1_rest_1 rfl hl (by decide) rfl (fun ls hl => ?_)
  refine lv_iconst (v := nI 0) hx hb dX1_rest_2 (by decide) ?_
  refine lv_istore_n (lv' := [(2, .int (nI (0))), (1, .int (nI (0))), (0, .ref (g 0))]) hx hb dX1_rest_3 rfl hl (by decide) rfl (fun ls hl => ?_)
  have L4 : ∀ (n i : Nat) (x1 : Nat), i ≤ 10 → 11 ≤ i + n → (x1 = sw_rs lf i) → ∀ (ls : Array Slot), lv_has ls 3 [(0, .ref (g 0)), (1, .int (nI (x1))), (2, .int (nI (i)))] → W P l e R s m args bl mt c s.heap [] 0 0 Q (F0 m 4 ls []) := by
    intro n
    induction n with
    | zero => intro i x1 h1 h2; exact absurd h2 (by omega)
    | succ n ih4 =>
      intro i x1 hi4 hn4 hc ls hl
      refine lv_iload_n hx hb dX1_rest_4 rfl (lv_at hl 2 rfl) ?_
      refine lv_bipush (v := nI 10) hx hb dX1_rest_5 (by decide) ?_
      refine sr_ge (tgt := 35) hx hb (by omega) (by omega) dX1_rest_7 (by decide) (fun c7 => ?_) (fun c7 => ?_)
      · refine lv_iload_n hx hb dX1_rest_35 rfl (lv_at hl 1 rfl) ?_
        exact hret _ _ _ dX1_rest_36 (by rw [hc, show i = 10 by omega])
      · refine lv_iload_n hx hb dX1_rest_10 rfl (lv_at hl 1 rfl) ?_
        refine lv_aload_n hx hb dX1_rest_11 rfl (lv_at hl 0 rfl) ?_
        refine mg5 hx hb hts hown hK hP dX1_rest_12 ?_
        refine lv_iload_n hx hb dX1_rest_15 rfl (lv_at hl 2 rfl) ?_
        refine ml5 hx hb hK hP (by omega) dX1_rest_16 ?_
        refine sr_le0 (tgt := 26) hx hb (by have := hlf i (by omega); omega) dX1_rest_17 (by decide) (fun c17 => ?_) (fun c17 => ?_)
        · refine lv_iconst (v := nI 0) hx hb dX1_rest_26 (by decide) ?_
          refine sr_or hx hb dX1_rest_27 ?_
          refine lv_istore_n (lv' := [(1, .int (nI (x1 ||| 0))), (0, .ref (g 0)), (2, .int (nI (i)))]) hx hb dX1_rest_28 rfl hl (by decide) rfl (fun ls hl => ?_)
          refine lv_iinc (v := nI (i + 1)) (lv' := [(2, .int (nI (i + 1))), (1, .int (nI (x1 ||| 0))), (0, .ref (g 0))]) hx hb dX1_rest_29 hl (k := 2) rfl (sn_inc (i)) (by decide) rfl (fun ls hl => ?_)
          refine lv_goto (tgt := 4) hx hb dX1_rest_32 (by decide) ?_
          exact ih4 (i + 1) (x1 ||| 0) (by omega) (by omega) (by rw [Nat.or_zero, hc, sw_rs_s0 c17]) ls (lv_sub hl [2, 1, 0] rfl)
        · refine lv_iconst (v := nI 1) hx hb dX1_rest_20 (by decide) ?_
          refine lv_iload_n hx hb dX1_rest_21 rfl (lv_at hl 2 rfl) ?_
          refine sr_shl hx hb (by omega) dX1_rest_22 ?_
          refine lv_goto (tgt := 27) hx hb dX1_rest_23 (by decide) ?_
          refine sr_or hx hb dX1_rest_27 ?_
          refine lv_istore_n (lv' := [(1, .int (nI ((x1) ||| (2 ^ (i))))), (0, .ref (g 0)), (2, .int (nI (i)))]) hx hb dX1_rest_28 rfl hl (by decide) rfl (fun ls hl => ?_)
          refine lv_iinc (v := nI (i + 1)) (lv' := [(2, .int (nI (i + 1))), (1, .int (nI ((x1) ||| (2 ^ (i))))), (0, .ref (g 0))]) hx hb dX1_rest_29 hl (k := 2) rfl (sn_inc (i)) (by decide) rfl (fun ls hl => ?_)
          refine lv_goto (tgt := 4) hx hb dX1_rest_32 (by decide) ?_
          exact ih4 (i + 1) ((x1) ||| (2 ^ (i))) (by omega) (by omega) (by rw [hc, sw_rs_s1 c17]) ls (lv_sub hl [2, 1, 0] rfl)
  exact L4 (11) (0) (0) (by omega) (by omega) rfl ls (lv_sub hl [2, 1, 0] rfl)
theorem hdX1_rest : yX1_rest.cls = RX1 ∧ yX1_rest.cls ≠ "java/lang/invoke/MethodHandle" ∧ yX1_rest.cls ≠ "java/lang/invoke/VarHandle" ∧ (parseMethodDescriptor yX1_rest.desc).map (fun d => d.parameters.length) = some 0 := by decide +kernel
set_option maxHeartbeats 4000000 in
set_option maxRecDepth 100000 in
theorem cM_oddOf (l : Launch) (D : va_G) (g : Nat → Nat) (k : Nat → ClassId) (p : Nat) (a b ln lf nr : Nat → Nat) {X : Nat} (hr : sw_rng a b ln) (hX : X < 1024) : Met l yX1_oddOf (ws_ yX1_oddOf cX1_oddOf 4 (some .int)) (sw_rm 0) (va_Pc [.ref (g 0), .int (nI (X))] (fun U => sw_MP D g k p a b ln lf nr U.heap ∧ sw_MK D k U)) (vp_Si (fun r => r = nI (sw_od a b X 10))) 0 0 (fun _ => False) := by
  refine so_i (own := RX1) (by decide) rfl (Nat.le_of_ble_eq_true rfl) (fun P e R s m args bl mt c Q ls S hR hL hB hl hret => ?_)
  obtain ⟨hP, hK⟩ := hB
  obtain ⟨hx, hb, hml, hown, hts⟩ := id S
  have hl : lv_has ls 4 [(0, .ref (g 0)), (1, .int (nI (X)))] := hl
  refine lv_iconst (v := nI 0) hx hb dX1_oddOf_0 (by decide) ?_
  refine lv_istore_n (lv' := [(2, .int (nI (0))), (0, .ref (g 0)), (1, .int (nI (X)))]) hx hb dX1_oddOf_1 rfl hl (by decide) rfl (fun ls hl => ?_)
  refine lv_iconst (v := nI 0) hx hb dX1_oddOf_2 (by decide) ?_
  refine lv_istore_n (lv' := [(3, .int (nI (0))), (2, .int (nI (0))), (0, .ref (g 0)), (1, .int (nI (X)))]) hx hb dX1_oddOf_3 rfl hl (by decide) rfl (fun ls hl => ?_)
  have L4 : ∀ (n i : Nat) (x1 : Nat), i ≤ 10 → 11 ≤ i + n → (x1 = sw_od a b X i) → ∀ (ls : Array Slot), lv_has ls 4 [(0, .ref (g 0)), (1, .int (nI (X))), (2, .int (nI (x1))), (3, .int (nI (i)))] → W P l e R s m args bl mt c s.heap [] 0 0 Q (F0 m 4 ls []) := by
    intro n
    induction n with
    | zero => intro i x1 h1 h2; exact absurd h2 (by omega)
    | succ n ih4 =>
      intro i x1 hi4 hn4 hc ls hl
      refine lv_iload_n hx hb dX1_oddOf_4 rfl (lv_at hl 3 rfl) ?_
      refine lv_bipush (v := nI 10) hx hb dX1_oddOf_5 (by decide) ?_
      refine sr_ge (tgt := 45) hx hb (by omega) (by omega) dX1_oddOf_7 (by decide) (fun c7 => ?_) (fun c7 => ?_)
      · refine lv_iload_n hx hb dX1_oddOf_45 rfl (lv_at hl 2 rfl) ?_
        exact hret _ _ _ dX1_oddOf_46 (by rw [hc, show i = 10 by omega])
      · refine lv_iload_n hx hb dX1_oddOf_10 rfl (lv_at hl 1 rfl) ?_
        refine lv_iload_n hx hb dX1_oddOf_11 rfl (lv_at hl 3 rfl) ?_
        refine sr_bit hx hb (by omega) (by omega) dX1_oddOf_12 dX1_oddOf_13 dX1_oddOf_14 ?_
        refine lv_iconst (v := nI 1) hx hb dX1_oddOf_15 (by decide) ?_
        refine sr_b1 (tgt := 39) hx hb dX1_oddOf_16 (by decide) (fun c16 => ?_) (fun c16 => ?_)
        · refine lv_iinc (v := nI (i + 1)) (lv' := [(3, .int (nI (i + 1))), (0, .ref (g 0)), (1, .int (nI (X))), (2, .int (nI (x1)))]) hx hb dX1_oddOf_39 hl (k := 3) rfl (sn_inc (i)) (by decide) rfl (fun ls hl => ?_)
          refine lv_goto (tgt := 4) hx hb dX1_oddOf_42 (by decide) ?_
          exact ih4 (i + 1) (x1) (by omega) (by omega) (by rw [hc, sw_od_s0 c16]) ls (lv_sub hl [1, 2, 3, 0] rfl)
        · refine lv_iload_n hx hb dX1_oddOf_19 rfl (lv_at hl 2 rfl) ?_
          refine lv_iconst (v := nI 1) hx hb dX1_oddOf_20 (by decide) ?_
          refine lv_aload_n hx hb dX1_oddOf_21 rfl (lv_at hl 0 rfl) ?_
          refine mg2 hx hb hts hown hK hP dX1_oddOf_22 ?_
          refine lv_iload_n hx hb dX1_oddOf_25 rfl (lv_at hl 3 rfl) ?_
          refine ml2 hx hb hK hP (by omega) dX1_oddOf_26 ?_
          refine sr_shl hx hb (by have := (hr i (by omega)).1; omega) dX1_oddOf_27 ?_
          refine sr_xor hx hb dX1_oddOf_28 ?_
          refine lv_iconst (v := nI 1) hx hb dX1_oddOf_29 (by decide) ?_
          refine lv_aload_n hx hb dX1_oddOf_30 rfl (lv_at hl 0 rfl) ?_
          refine mg3 hx hb hts hown hK hP dX1_oddOf_31 ?_
          refine lv_iload_n hx hb dX1_oddOf_34 rfl (lv_at hl 3 rfl) ?_
          refine ml3 hx hb hK hP (by omega) dX1_oddOf_35 ?_
          refine sr_shl hx hb (by have := (hr i (by omega)).2.1; omega) dX1_oddOf_36 ?_
          refine sr_xor hx hb dX1_oddOf_37 ?_
          refine lv_istore_n (lv' := [(2, .int (nI (((x1) ^^^ (2 ^ (a (i)))) ^^^ (2 ^ (b (i)))))), (0, .ref (g 0)), (1, .int (nI (X))), (3, .int (nI (i)))]) hx hb dX1_oddOf_38 rfl hl (by decide) rfl (fun ls hl => ?_)
          refine lv_iinc (v := nI (i + 1)) (lv' := [(3, .int (nI (i + 1))), (2, .int (nI (((x1) ^^^ (2 ^ (a (i)))) ^^^ (2 ^ (b (i)))))), (0, .ref (g 0)), (1, .int (nI (X)))]) hx hb dX1_oddOf_39 hl (k := 3) rfl (sn_inc (i)) (by decide) rfl (fun ls hl => ?_)
          refine lv_goto (tgt := 4) hx hb dX1_oddOf_42 (by decide) ?_
          exact ih4 (i + 1) (((x1) ^^^ (2 ^ (a (i)))) ^^^ (2 ^ (b (i)))) (by omega) (by omega) (by rw [hc, sw_od_s1 c16, Nat.xor_assoc]) ls (lv_sub hl [2, 3, 1, 0] rfl)
  exact L4 (11) (0) (0) (by omega) (by omega) rfl ls (lv_sub hl [2, 3, 1, 0] rfl)
theorem hdX1_oddOf : yX1_oddOf.cls = RX1 ∧ yX1_oddOf.cls ≠ "java/lang/invoke/MethodHandle" ∧ yX1_oddOf.cls ≠ "java/lang/invoke/VarHandle" ∧ (parseMethodDescriptor yX1_oddOf.desc).map (fun d => d.parameters.length) = some 1 := by decide +kernel
set_option maxHeartbeats 4000000 in
set_option maxRecDepth 100000 in
theorem cM_odd (l : Launch) (D : va_G) (g : Nat → Nat) (k : Nat → ClassId) (p : Nat) (a b ln lf nr : Nat → Nat)  (hp : p < 1024) (hr : sw_rng a b ln) : Met l yX1_odd (ws_ yX1_odd cX1_odd 2 (some .int)) (sw_rm 1) (va_Pc [.ref (g 0)] (fun U => sw_MP D g k p a b ln lf nr U.heap ∧ sw_MK D k U)) (vp_Si (fun r => r = nI (sw_od a b p 10))) 0 0 (fun _ => False) := by
  refine so_i (own := RX1) (by decide) rfl (Nat.le_of_ble_eq_true rfl) (fun P e R s m args bl mt c Q ls S hR hL hB hl hret => ?_)
  obtain ⟨hP, hK⟩ := hB
  obtain ⟨hx, hb, hml, hown, hts⟩ := id S
  have hl : lv_has ls 2 [(0, .ref (g 0))] := hl
  refine lv_aload_n hx hb dX1_odd_0 rfl (lv_at hl 0 rfl) ?_
  refine mc_ro (As := []) (n := 0) S (cM_streets l D g k p a b ln lf nr hp) (lw_V q211 q204 q205 q22 q206) hdX1_streets (by omega) (by omega) (by decide) (Nat.zero_le _) (Nat.zero_le _) hK hP rfl hl.1 (Nat.le_of_ble_eq_true rfl) dX1_odd_1 rfl (fun r hq => ?_)
  subst hq
  refine lv_istore_n (lv' := [(1, .int (nI (p))), (0, .ref (g 0))]) hx hb dX1_odd_4 rfl hl (by decide) rfl (fun ls hl => ?_)
  refine lv_aload_n hx hb dX1_odd_5 rfl (lv_at hl 1 rfl) ?_
  refine lv_iload_n hx hb dX1_odd_6 rfl (lv_at hl 0 rfl) ?_
  refine mc_ro (As := [.int (nI (p))]) (n := 1) S (cM_oddOf l D g k p a b ln lf nr hr hp) (lw_V q212 q214 qs12 q22 q215) hdX1_oddOf (by omega) (by omega) (by decide) (Nat.zero_le _) (Nat.zero_le _) hK hP rfl hl.1 (Nat.le_of_ble_eq_true rfl) dX1_odd_7 rfl (fun r hq => ?_)
  subst hq
  exact hret _ _ _ dX1_odd_10 rfl
theorem hdX1_odd : yX1_odd.cls = RX1 ∧ yX1_odd.cls ≠ "java/lang/invoke/MethodHandle" ∧ yX1_odd.cls ≠ "java/lang/invoke/VarHandle" ∧ (parseMethodDescriptor yX1_odd.desc).map (fun d => d.parameters.length) = some 0 := by decide +kernel
set_option maxHeartbeats 4000000 in
set_option maxRecDepth 100000 in
theorem cM_reached (l : Launch) (D : va_G) (g : Nat → Nat) (k : Nat → ClassId) (p : Nat) (a b ln lf nr : Nat → Nat) {C X : Nat} (hr : sw_rng a b ln) (hC : C < 6) (hX : X < 1024) : Met l yX1_reached (ws_ yX1_reached cX1_reached 7 (some .int)) (sw_rm 0) (va_Pc [.ref (g 0), .int (nI (C)), .int (nI (X))] (fun U => sw_MP D g k p a b ln lf nr U.heap ∧ sw_MK D k U)) (vp_Si (fun r => r = nI (sw_rc a b X (2 ^ C) 6))) 0 0 (fun _ => False) := by
  refine so_i (own := RX1) (by decide) rfl (Nat.le_of_ble_eq_true rfl) (fun P e R s m args bl mt c Q ls S hR hL hB hl hret => ?_)
  obtain ⟨hP, hK⟩ := hB
  obtain ⟨hx, hb, hml, hown, hts⟩ := id S
  have hl : lv_has ls 7 [(0, .ref (g 0)), (1, .int (nI (C))), (2, .int (nI (X)))] := hl
  refine lv_iconst (v := nI 1) hx hb dX1_reached_0 (by decide) ?_
  refine lv_iload_n hx hb dX1_reached_1 rfl (lv_at hl 1 rfl) ?_
  refine sr_shl hx hb (by omega) dX1_reached_2 ?_
  refine lv_istore_n (lv' := [(3, .int (nI (2 ^ (C)))), (0, .ref (g 0)), (1, .int (nI (C))), (2, .int (nI (X)))]) hx hb dX1_reached_3 rfl hl (by decide) rfl (fun ls hl => ?_)
  refine lv_iconst (v := nI 0) hx hb dX1_reached_4 (by decide) ?_
  refine lv_istore (lv' := [(4, .int (nI (0))), (3, .int (nI (2 ^ (C)))), (0, .ref (g 0)), (1, .int (nI (C))), (2, .int (nI (X)))]) hx hb dX1_reached_5 hl (by decide) rfl (fun ls hl => ?_)
  have L7 : ∀ (n i : Nat) (x1 : Nat), i ≤ 6 → 7 ≤ i + n → (x1 = sw_rc a b X (2 ^ C) i) → ∀ (ls : Array Slot), lv_has ls 7 [(0, .ref (g 0)), (1, .int (nI (C))), (2, .int (nI (X))), (3, .int (nI (x1))), (4, .int (nI (i)))] → W P l e R s m args bl mt c s.heap [] 0 0 Q (F0 m 7 ls []) := by
    intro n
    induction n with
    | zero => intro i x1 h1 h2; exact absurd h2 (by omega)
    | succ n ih7 =>
      intro i x1 hi7 hn7 hc ls hl
      refine lv_iload hx hb dX1_reached_7 (lv_at hl 4 rfl) ?_
      refine lv_bipush (v := nI 6) hx hb dX1_reached_9 (by decide) ?_
      refine sr_ge (tgt := 79) hx hb (by omega) (by omega) dX1_reached_11 (by decide) (fun c11 => ?_) (fun c11 => ?_)
      · refine lv_iload_n hx hb dX1_reached_79 rfl (lv_at hl 3 rfl) ?_
        exact hret _ _ _ dX1_reached_80 (by rw [hc, show i = 6 by omega])
      · refine lv_iconst (v := nI 0) hx hb dX1_reached_14 (by decide) ?_
        refine lv_istore (lv' := [(5, .int (nI (0))), (0, .ref (g 0)), (1, .int (nI (C))), (2, .int (nI (X))), (3, .int (nI (x1))), (4, .int (nI (i)))]) hx hb dX1_reached_15 hl (by decide) rfl (fun ls hl => ?_)
        have L17 : ∀ (n j : Nat) (x2 : Nat), j ≤ 10 → 11 ≤ j + n → (x2 = sw_ps a b X j x1) → ∀ (ls : Array Slot), lv_has ls 7 [(0, .ref (g 0)), (1, .int (nI (C))), (2, .int (nI (X))), (3, .int (nI (x2))), (4, .int (nI (i))), (5, .int (nI (j)))] → W P l e R s m args bl mt c s.heap [] 0 0 Q (F0 m 17 ls []) := by
          intro n
          induction n with
          | zero => intro j x2 h1 h2; exact absurd h2 (by omega)
          | succ n ih17 =>
            intro j x2 hi17 hn17 hc2 ls hl
            refine lv_iload hx hb dX1_reached_17 (lv_at hl 5 rfl) ?_
            refine lv_bipush (v := nI 10) hx hb dX1_reached_19 (by decide) ?_
            refine sr_ge (tgt := 73) hx hb (by omega) (by omega) dX1_reached_21 (by decide) (fun c21 => ?_) (fun c21 => ?_)
            · refine lv_iinc (v := nI (i + 1)) (lv' := [(4, .int (nI (i + 1))), (0, .ref (g 0)), (1, .int (nI (C))), (2, .int (nI (X))), (3, .int (nI (x2))), (5, .int (nI (j)))]) hx hb dX1_reached_73 hl (k := 4) rfl (sn_inc (i)) (by decide) rfl (fun ls hl => ?_)
              refine lv_goto (tgt := 7) hx hb dX1_reached_76 (by decide) ?_
              exact ih7 (i + 1) (x2) (by omega) (by omega) (by show x2 = sw_ps a b X 10 (sw_rc a b X (2 ^ C) i); rw [← hc, hc2, show j = 10 by omega]) ls (lv_sub hl [1, 2, 3, 4, 0] rfl)
            · refine lv_iconst (v := nI 1) hx hb dX1_reached_24 (by decide) ?_
              refine lv_aload_n hx hb dX1_reached_25 rfl (lv_at hl 0 rfl) ?_
              refine mg2 hx hb hts hown hK hP dX1_reached_26 ?_
              refine lv_iload hx hb dX1_reached_29 (lv_at hl 5 rfl) ?_
              refine ml2 hx hb hK hP (by omega) dX1_reached_31 ?_
              refine sr_shl hx hb (by have := (hr j (by omega)).1; omega) dX1_reached_32 ?_
              refine lv_iconst (v := nI 1) hx hb dX1_reached_33 (by decide) ?_
              refine lv_aload_n hx hb dX1_reached_34 rfl (lv_at hl 0 rfl) ?_
              refine mg3 hx hb hts hown hK hP dX1_reached_35 ?_
              refine lv_iload hx hb dX1_reached_38 (lv_at hl 5 rfl) ?_
              refine ml3 hx hb hK hP (by omega) dX1_reached_40 ?_
              refine sr_shl hx hb (by have := (hr j (by omega)).2.1; omega) dX1_reached_41 ?_
              refine sr_or hx hb dX1_reached_42 ?_
              refine lv_istore (lv' := [(6, .int (nI ((2 ^ (a (j))) ||| (2 ^ (b (j)))))), (0, .ref (g 0)), (1, .int (nI (C))), (2, .int (nI (X))), (3, .int (nI (x2))), (4, .int (nI (i))), (5, .int (nI (j)))]) hx hb dX1_reached_43 hl (by decide) rfl (fun ls hl => ?_)
              refine lv_iload_n hx hb dX1_reached_45 rfl (lv_at hl 3 rfl) ?_
              refine lv_iload hx hb dX1_reached_46 (lv_at hl 6 rfl) ?_
              refine sr_bit hx hb (by omega) (by omega) dX1_reached_48 dX1_reached_49 dX1_reached_50 ?_
              refine lv_iconst (v := nI 1) hx hb dX1_reached_51 (by decide) ?_
              refine sr_b1 (tgt := 67) hx hb dX1_reached_52 (by decide) (fun c52 => ?_) (fun c52 => ?_)
              · refine lv_iinc (v := nI (j + 1)) (lv' := [(5, .int (nI (j + 1))), (6, .int (nI ((2 ^ (a (j))) ||| (2 ^ (b (j)))))), (0, .ref (g 0)), (1, .int (nI (C))), (2, .int (nI (X))), (3, .int (nI (x2))), (4, .int (nI (i)))]) hx hb dX1_reached_67 hl (k := 6) rfl (sn_inc (j)) (by decide) rfl (fun ls hl => ?_)
                refine lv_goto (tgt := 17) hx hb dX1_reached_70 (by decide) ?_
                exact ih17 (j + 1) (x2) (by omega) (by omega) (by show x2 = sw_st (sw_E a b j) (sw_ps a b X j x1) (X.testBit j); rw [← hc2, sw_st_f c52]) ls (lv_sub hl [2, 3, 4, 5, 6, 0] rfl)
              · refine lv_iload_n hx hb dX1_reached_55 rfl (lv_at hl 4 rfl) ?_
                refine lv_iload hx hb dX1_reached_56 (lv_at hl 0 rfl) ?_
                refine sr_and hx hb dX1_reached_58 ?_
                refine sr_eq0 (tgt := 67) hx hb (Nat.lt_of_le_of_lt Nat.and_le_right (by have := sw_E_lt hr (show j < 10 by omega); unfold sw_E at this; omega)) dX1_reached_59 (by decide) (fun c59 => ?_) (fun c59 => ?_)
                · refine lv_iinc (v := nI (j + 1)) (lv' := [(5, .int (nI (j + 1))), (6, .int (nI ((2 ^ (a (j))) ||| (2 ^ (b (j)))))), (0, .ref (g 0)), (1, .int (nI (C))), (2, .int (nI (X))), (3, .int (nI (x2))), (4, .int (nI (i)))]) hx hb dX1_reached_67 hl (k := 6) rfl (sn_inc (j)) (by decide) rfl (fun ls hl => ?_)
                  refine lv_goto (tgt := 17) hx hb dX1_reached_70 (by decide) ?_
                  exact ih17 (j + 1) (x2) (by omega) (by omega) (by show x2 = sw_st (sw_E a b j) (sw_ps a b X j x1) (X.testBit j); rw [← hc2, sw_st_0 (show sw_E a b j &&& x2 = 0 by rw [Nat.and_comm]; exact c59)]) ls (lv_sub hl [2, 3, 4, 5, 6, 0] rfl)
                · refine lv_iload_n hx hb dX1_reached_62 rfl (lv_at hl 4 rfl) ?_
                  refine lv_iload hx hb dX1_reached_63 (lv_at hl 0 rfl) ?_
                  refine sr_or hx hb dX1_reached_65 ?_
                  refine lv_istore_n (lv' := [(3, .int (nI ((x2) ||| ((2 ^ (a (j))) ||| (2 ^ (b (j))))))), (6, .int (nI ((2 ^ (a (j))) ||| (2 ^ (b (j)))))), (0, .ref (g 0)), (1, .int (nI (C))), (2, .int (nI (X))), (4, .int (nI (i))), (5, .int (nI (j)))]) hx hb dX1_reached_66 rfl hl (by decide) rfl (fun ls hl => ?_)
                  refine lv_iinc (v := nI (j + 1)) (lv' := [(5, .int (nI (j + 1))), (3, .int (nI ((x2) ||| ((2 ^ (a (j))) ||| (2 ^ (b (j))))))), (6, .int (nI ((2 ^ (a (j))) ||| (2 ^ (b (j)))))), (0, .ref (g 0)), (1, .int (nI (C))), (2, .int (nI (X))), (4, .int (nI (i)))]) hx hb dX1_reached_67 hl (k := 6) rfl (sn_inc (j)) (by decide) rfl (fun ls hl => ?_)
                  refine lv_goto (tgt := 17) hx hb dX1_reached_70 (by decide) ?_
                  exact ih17 (j + 1) ((x2) ||| ((2 ^ (a (j))) ||| (2 ^ (b (j))))) (by omega) (by omega) (by show x2 ||| sw_E a b j = sw_st (sw_E a b j) (sw_ps a b X j x1) (X.testBit j); rw [← hc2, sw_st_1 c52 (show sw_E a b j &&& x2 ≠ 0 by rw [Nat.and_comm]; exact c59)]) ls (lv_sub hl [3, 4, 5, 1, 6, 0] rfl)
        exact L17 (11) (0) (x1) (by omega) (by omega) rfl ls (lv_sub hl [1, 2, 3, 4, 5, 0] rfl)
  exact L7 (7) (0) (2 ^ C) (by omega) (by omega) rfl ls (lv_sub hl [2, 3, 4, 1, 0] rfl)
theorem hdX1_reached : yX1_reached.cls = RX1 ∧ yX1_reached.cls ≠ "java/lang/invoke/MethodHandle" ∧ yX1_reached.cls ≠ "java/lang/invoke/VarHandle" ∧ (parseMethodDescriptor yX1_reached.desc).map (fun d => d.parameters.length) = some 2 := by decide +kernel
set_option maxHeartbeats 4000000 in
set_option maxRecDepth 100000 in
theorem cM_allFrom (l : Launch) (D : va_G) (g : Nat → Nat) (k : Nat → ClassId) (p : Nat) (a b ln lf nr : Nat → Nat) {C X : Nat} (hr : sw_rng a b ln) (hC : C < 6) (hX : X < 1024) : Met l yX1_allFrom (ws_ yX1_allFrom cX1_allFrom 6 (some .boolean)) (sw_rm 1) (va_Pc [.ref (g 0), .int (nI (C)), .int (nI (X))] (fun U => sw_MP D g k p a b ln lf nr U.heap ∧ sw_MK D k U)) (vp_Si (fun r => r = nI (Bool.toNat (sw_al a X (sw_rc a b X (2 ^ C) 6) 10)))) 0 0 (fun _ => False) := by
  refine so_z (own := RX1) (by decide) rfl (Nat.le_of_ble_eq_true rfl) (fun v h => ⟨_, h⟩) (fun P e R s m args bl mt c Q ls S hR hL hB hl hret => ?_)
  obtain ⟨hP, hK⟩ := hB
  obtain ⟨hx, hb, hml, hown, hts⟩ := id S
  have hl : lv_has ls 6 [(0, .ref (g 0)), (1, .int (nI (C))), (2, .int (nI (X)))] := hl
  have hR6 := sw_rc_lt hr X (sw_p64 hC) 6
  refine lv_aload_n hx hb dX1_allFrom_0 rfl (lv_at hl 0 rfl) ?_
  refine lv_iload_n hx hb dX1_allFrom_1 rfl (lv_at hl 1 rfl) ?_
  refine lv_iload_n hx hb dX1_allFrom_2 rfl (lv_at hl 2 rfl) ?_
  refine mc_ro (As := [.int (nI (C)), .int (nI (X))]) (n := 2) S (cM_reached l D g k p a b ln lf nr hr hC hX) (lw_V q224 q226 qs14 q22 q227) hdX1_reached (by omega) (by omega) (by decide) (Nat.zero_le _) (Nat.zero_le _) hK hP rfl hl.1 (Nat.le_of_ble_eq_true rfl) dX1_allFrom_3 rfl (fun r hq => ?_)
  subst hq
  refine lv_istore_n (lv' := [(3, .int (nI (sw_rc a b X (2 ^ C) 6))), (0, .ref (g 0)), (1, .int (nI (C))), (2, .int (nI (X)))]) hx hb dX1_allFrom_6 rfl hl (by decide) rfl (fun ls hl => ?_)
  refine lv_iconst (v := nI 1) hx hb dX1_allFrom_7 (by decide) ?_
  refine lv_istore (lv' := [(4, .int (nI (1))), (3, .int (nI (sw_rc a b X (2 ^ C) 6))), (0, .ref (g 0)), (1, .int (nI (C))), (2, .int (nI (X)))]) hx hb dX1_allFrom_8 hl (by decide) rfl (fun ls hl => ?_)
  refine lv_iconst (v := nI 0) hx hb dX1_allFrom_10 (by decide) ?_
  refine lv_istore (lv' := [(5, .int (nI (0))), (4, .int (nI (1))), (3, .int (nI (sw_rc a b X (2 ^ C) 6))), (0, .ref (g 0)), (1, .int (nI (C))), (2, .int (nI (X)))]) hx hb dX1_allFrom_11 hl (by decide) rfl (fun ls hl => ?_)
  have L13 : ∀ (n i : Nat) (ok : Bool), i ≤ 10 → 11 ≤ i + n → (ok = sw_al a X (sw_rc a b X (2 ^ C) 6) i) → ∀ (ls : Array Slot), lv_has ls 6 [(0, .ref (g 0)), (1, .int (nI (C))), (2, .int (nI (X))), (3, .int (nI (sw_rc a b X (2 ^ C) 6))), (4, .int (nI (Bool.toNat (ok)))), (5, .int (nI (i)))] → W P l e R s m args bl mt c s.heap [] 0 0 Q (F0 m 13 ls []) := by
    intro n
    induction n with
    | zero => intro i ok h1 h2; exact absurd h2 (by omega)
    | succ n ih13 =>
      intro i ok hi13 hn13 hc ls hl
      refine lv_iload hx hb dX1_allFrom_13 (lv_at hl 5 rfl) ?_
      refine lv_bipush (v := nI 10) hx hb dX1_allFrom_15 (by decide) ?_
      refine sr_ge (tgt := 62) hx hb (by omega) (by omega) dX1_allFrom_17 (by decide) (fun c17 => ?_) (fun c17 => ?_)
      · refine lv_iload hx hb dX1_allFrom_62 (lv_at hl 4 rfl) ?_
        exact hret _ _ _ dX1_allFrom_64 (by rw [hc, show i = 10 by omega])
      · refine lv_iload hx hb dX1_allFrom_20 (lv_at hl 4 rfl) ?_
        refine sr_bf (tgt := 53) hx hb dX1_allFrom_22 (by decide) (fun c22 => ?_) (fun c22 => ?_)
        · refine lv_iconst (v := nI 0) hx hb dX1_allFrom_53 (by decide) ?_
          refine lv_istore (lv' := [(4, .int (nI (0))), (0, .ref (g 0)), (1, .int (nI (C))), (2, .int (nI (X))), (3, .int (nI (sw_rc a b X (2 ^ C) 6))), (5, .int (nI (i)))]) hx hb dX1_allFrom_54 hl (by decide) rfl (fun ls hl => ?_)
          refine lv_iinc (v := nI (i + 1)) (lv' := [(5, .int (nI (i + 1))), (4, .int (nI (0))), (0, .ref (g 0)), (1, .int (nI (C))), (2, .int (nI (X))), (3, .int (nI (sw_rc a b X (2 ^ C) 6)))]) hx hb dX1_allFrom_56 hl (k := 5) rfl (sn_inc (i)) (by decide) rfl (fun ls hl => ?_)
          refine lv_goto (tgt := 13) hx hb dX1_allFrom_59 (by decide) ?_
          exact ih13 (i + 1) (false) (by omega) (by omega) (by rw [sw_al_s, ← hc, c22]; rfl) ls (lv_sub hl [2, 3, 4, 5, 1, 0] rfl)
        · refine lv_iload_n hx hb dX1_allFrom_25 rfl (lv_at hl 2 rfl) ?_
          refine lv_iload hx hb dX1_allFrom_26 (lv_at hl 5 rfl) ?_
          refine sr_bit hx hb (by omega) (by omega) dX1_allFrom_28 dX1_allFrom_29 dX1_allFrom_30 ?_
          refine sr_bf (tgt := 49) hx hb dX1_allFrom_31 (by decide) (fun c31 => ?_) (fun c31 => ?_)
          · refine lv_iconst (v := nI 1) hx hb dX1_allFrom_49 (by decide) ?_
            refine lv_goto (tgt := 54) hx hb dX1_allFrom_50 (by decide) ?_
            refine lv_istore (lv' := [(4, .int (nI (1))), (0, .ref (g 0)), (1, .int (nI (C))), (2, .int (nI (X))), (3, .int (nI (sw_rc a b X (2 ^ C) 6))), (5, .int (nI (i)))]) hx hb dX1_allFrom_54 hl (by decide) rfl (fun ls hl => ?_)
            refine lv_iinc (v := nI (i + 1)) (lv' := [(5, .int (nI (i + 1))), (4, .int (nI (1))), (0, .ref (g 0)), (1, .int (nI (C))), (2, .int (nI (X))), (3, .int (nI (sw_rc a b X (2 ^ C) 6)))]) hx hb dX1_allFrom_56 hl (k := 5) rfl (sn_inc (i)) (by decide) rfl (fun ls hl => ?_)
            refine lv_goto (tgt := 13) hx hb dX1_allFrom_59 (by decide) ?_
            exact ih13 (i + 1) (true) (by omega) (by omega) (by rw [sw_al_s, ← hc, c22, c31]; rfl) ls (lv_sub hl [2, 3, 4, 5, 1, 0] rfl)
          · refine lv_iload_n hx hb dX1_allFrom_34 rfl (lv_at hl 3 rfl) ?_
            refine lv_aload_n hx hb dX1_allFrom_35 rfl (lv_at hl 0 rfl) ?_
            refine mg2 hx hb hts hown hK hP dX1_allFrom_36 ?_
            refine lv_iload hx hb dX1_allFrom_39 (lv_at hl 5 rfl) ?_
            refine ml2 hx hb hK hP (by omega) dX1_allFrom_41 ?_
            refine sr_bit hx hb (by omega) (by have := (hr i (by omega)).1; omega) dX1_allFrom_42 dX1_allFrom_43 dX1_allFrom_44 ?_
            refine lv_iconst (v := nI 1) hx hb dX1_allFrom_45 (by decide) ?_
            refine sr_b1 (tgt := 53) hx hb dX1_allFrom_46 (by decide) (fun c46 => ?_) (fun c46 => ?_)
            · refine lv_iconst (v := nI 0) hx hb dX1_allFrom_53 (by decide) ?_
              refine lv_istore (lv' := [(4, .int (nI (0))), (0, .ref (g 0)), (1, .int (nI (C))), (2, .int (nI (X))), (3, .int (nI (sw_rc a b X (2 ^ C) 6))), (5, .int (nI (i)))]) hx hb dX1_allFrom_54 hl (by decide) rfl (fun ls hl => ?_)
              refine lv_iinc (v := nI (i + 1)) (lv' := [(5, .int (nI (i + 1))), (4, .int (nI (0))), (0, .ref (g 0)), (1, .int (nI (C))), (2, .int (nI (X))), (3, .int (nI (sw_rc a b X (2 ^ C) 6)))]) hx hb dX1_allFrom_56 hl (k := 5) rfl (sn_inc (i)) (by decide) rfl (fun ls hl => ?_)
              refine lv_goto (tgt := 13) hx hb dX1_allFrom_59 (by decide) ?_
              exact ih13 (i + 1) (false) (by omega) (by omega) (by rw [sw_al_s, ← hc, c22, c31, c46]; rfl) ls (lv_sub hl [2, 3, 4, 5, 1, 0] rfl)
            · refine lv_iconst (v := nI 1) hx hb dX1_allFrom_49 (by decide) ?_
              refine lv_goto (tgt := 54) hx hb dX1_allFrom_50 (by decide) ?_
              refine lv_istore (lv' := [(4, .int (nI (1))), (0, .ref (g 0)), (1, .int (nI (C))), (2, .int (nI (X))), (3, .int (nI (sw_rc a b X (2 ^ C) 6))), (5, .int (nI (i)))]) hx hb dX1_allFrom_54 hl (by decide) rfl (fun ls hl => ?_)
              refine lv_iinc (v := nI (i + 1)) (lv' := [(5, .int (nI (i + 1))), (4, .int (nI (1))), (0, .ref (g 0)), (1, .int (nI (C))), (2, .int (nI (X))), (3, .int (nI (sw_rc a b X (2 ^ C) 6)))]) hx hb dX1_allFrom_56 hl (k := 5) rfl (sn_inc (i)) (by decide) rfl (fun ls hl => ?_)
              refine lv_goto (tgt := 13) hx hb dX1_allFrom_59 (by decide) ?_
              exact ih13 (i + 1) (true) (by omega) (by omega) (by rw [sw_al_s, ← hc, c22, c31, c46]; rfl) ls (lv_sub hl [2, 3, 4, 5, 1, 0] rfl)
  exact L13 (11) (0) (true) (by omega) (by omega) rfl ls (lv_sub hl [3, 4, 5, 2, 1, 0] rfl)
theorem hdX1_allFrom : yX1_allFrom.cls = RX1 ∧ yX1_allFrom.cls ≠ "java/lang/invoke/MethodHandle" ∧ yX1_allFrom.cls ≠ "java/lang/invoke/VarHandle" ∧ (parseMethodDescriptor yX1_allFrom.desc).map (fun d => d.parameters.length) = some 2 := by decide +kernel
set_option maxHeartbeats 4000000 in
set_option maxRecDepth 100000 in
theorem cM_connected (l : Launch) (D : va_G) (g : Nat → Nat) (k : Nat → ClassId) (p : Nat) (a b ln lf nr : Nat → Nat)  (hp : p < 1024) (hr : sw_rng a b ln) : Met l yX1_connected (ws_ yX1_connected cX1_connected 3 (some .boolean)) (sw_rm 2) (va_Pc [.ref (g 0)] (fun U => sw_MP D g k p a b ln lf nr U.heap ∧ sw_MK D k U)) (vp_Si (fun r => ∃ bb : Bool, r = nI bb.toNat ∧ (bb = true ↔ sw_con a b p))) 0 0 (fun _ => False) := by
  refine so_z (own := RX1) (by decide) rfl (Nat.le_of_ble_eq_true rfl) (fun v h => ⟨h.choose, h.choose_spec.1⟩) (fun P e R s m args bl mt c Q ls S hR hL hB hl hret => ?_)
  obtain ⟨hP, hK⟩ := hB
  obtain ⟨hx, hb, hml, hown, hts⟩ := id S
  have hl : lv_has ls 3 [(0, .ref (g 0))] := hl
  refine lv_aload_n hx hb dX1_connected_0 rfl (lv_at hl 0 rfl) ?_
  refine mc_ro (As := []) (n := 0) S (cM_streets l D g k p a b ln lf nr hp) (lw_V q211 q204 q205 q22 q206) hdX1_streets (by omega) (by omega) (by decide) (Nat.zero_le _) (Nat.zero_le _) hK hP rfl hl.1 (Nat.le_of_ble_eq_true rfl) dX1_connected_1 rfl (fun r hq => ?_)
  subst hq
  refine lv_istore_n (lv' := [(1, .int (nI (p))), (0, .ref (g 0))]) hx hb dX1_connected_4 rfl hl (by decide) rfl (fun ls hl => ?_)
  refine lv_iconst (v := nI 0) hx hb dX1_connected_5 (by decide) ?_
  refine lv_istore_n (lv' := [(2, .int (nI (0))), (1, .int (nI (p))), (0, .ref (g 0))]) hx hb dX1_connected_6 rfl hl (by decide) rfl (fun ls hl => ?_)
  have L7 : ∀ (n i : Nat), i ≤ 10 → 11 ≤ i + n → (∀ t, t < i → p.testBit t = false) → ∀ (ls : Array Slot), lv_has ls 3 [(0, .ref (g 0)), (1, .int (nI (p))), (2, .int (nI (i)))] → W P l e R s m args bl mt c s.heap [] 0 0 Q (F0 m 7 ls []) := by
    intro n
    induction n with
    | zero => intro i h1 h2; exact absurd h2 (by omega)
    | succ n ih7 =>
      intro i hi7 hn7 hno ls hl
      refine lv_iload_n hx hb dX1_connected_7 rfl (lv_at hl 2 rfl) ?_
      refine lv_bipush (v := nI 10) hx hb dX1_connected_8 (by decide) ?_
      refine sr_ge (tgt := 40) hx hb (by omega) (by omega) dX1_connected_10 (by decide) (fun c10 => ?_) (fun c10 => ?_)
      · refine lv_iconst (v := nI 1) hx hb dX1_connected_40 (by decide) ?_
        exact hret _ _ _ dX1_connected_41 ⟨true, rfl, fun _ => sw_con_no (fun t ht => hno t (by omega)), fun _ => rfl⟩
      · refine lv_aload_n hx hb dX1_connected_13 rfl (lv_at hl 0 rfl) ?_
        refine mg1 hx hb hts hown hK hP dX1_connected_14 ?_
        refine lv_iload_n hx hb dX1_connected_17 rfl (lv_at hl 2 rfl) ?_
        refine ml1 hx hb hK hP (by omega) dX1_connected_18 ?_
        refine sr_bf (tgt := 34) hx hb dX1_connected_19 (by decide) (fun c19 => ?_) (fun c19 => ?_)
        · refine lv_iinc (v := nI (i + 1)) (lv' := [(2, .int (nI (i + 1))), (0, .ref (g 0)), (1, .int (nI (p)))]) hx hb dX1_connected_34 hl (k := 2) rfl (sn_inc (i)) (by decide) rfl (fun ls hl => ?_)
          refine lv_goto (tgt := 7) hx hb dX1_connected_37 (by decide) ?_
          exact ih7 (i + 1) (by omega) (by omega) (lt_s hno c19) ls (lv_sub hl [1, 2, 0] rfl)
        · refine lv_aload_n hx hb dX1_connected_22 rfl (lv_at hl 0 rfl) ?_
          refine lv_aload_n hx hb dX1_connected_23 rfl (lv_at hl 0 rfl) ?_
          refine mg2 hx hb hts hown hK hP dX1_connected_24 ?_
          refine lv_iload_n hx hb dX1_connected_27 rfl (lv_at hl 2 rfl) ?_
          refine ml2 hx hb hK hP (by omega) dX1_connected_28 ?_
          refine lv_iload_n hx hb dX1_connected_29 rfl (lv_at hl 1 rfl) ?_
          refine mc_ro (As := [.int (nI (a (i))), .int (nI (p))]) (n := 2) S (cM_allFrom l D g k p a b ln lf nr hr (hr i (by omega)).1 hp) (lw_V q220 q222 qs13 q22 q223) hdX1_allFrom (by omega) (by omega) (by decide) (Nat.zero_le _) (Nat.zero_le _) hK hP rfl hl.1 (Nat.le_of_ble_eq_true rfl) dX1_connected_30 rfl (fun r hq => ?_)
          subst hq
          exact hret _ _ _ dX1_connected_33 ⟨_, rfl, sw_con_iff hr p (by omega) c19 (Or.inl rfl)⟩
  exact L7 (11) (0) (by omega) (by omega) (fun t z => absurd z (Nat.not_lt_zero t)) ls (lv_sub hl [2, 1, 0] rfl)
theorem hdX1_connected : yX1_connected.cls = RX1 ∧ yX1_connected.cls ≠ "java/lang/invoke/MethodHandle" ∧ yX1_connected.cls ≠ "java/lang/invoke/VarHandle" ∧ (parseMethodDescriptor yX1_connected.desc).map (fun d => d.parameters.length) = some 0 := by decide +kernel
set_option maxHeartbeats 4000000 in
set_option maxRecDepth 100000 in
theorem cM_lengthOf (l : Launch) (D : va_G) (g : Nat → Nat) (k : Nat → ClassId) (p : Nat) (a b ln lf nr : Nat → Nat) {X : Nat} (hX : X < 1024) : Met l yX1_lengthOf (ws_ yX1_lengthOf cX1_lengthOf 4 (some .int)) (sw_rm 0) (va_Pc [.ref (g 0), .int (nI (X))] (fun U => sw_MP D g k p a b ln lf nr U.heap ∧ sw_MK D k U)) (vp_Si (fun r => r = nI (sw_ln ln X 10))) 0 0 (fun _ => False) := by
  refine so_i (own := RX1) (by decide) rfl (Nat.le_of_ble_eq_true rfl) (fun P e R s m args bl mt c Q ls S hR hL hB hl hret => ?_)
  obtain ⟨hP, hK⟩ := hB
  obtain ⟨hx, hb, hml, hown, hts⟩ := id S
  have hl : lv_has ls 4 [(0, .ref (g 0)), (1, .int (nI (X)))] := hl
  refine lv_iconst (v := nI 0) hx hb dX1_lengthOf_0 (by decide) ?_
  refine lv_istore_n (lv' := [(2, .int (nI (0))), (0, .ref (g 0)), (1, .int (nI (X)))]) hx hb dX1_lengthOf_1 rfl hl (by decide) rfl (fun ls hl => ?_)
  refine lv_iconst (v := nI 0) hx hb dX1_lengthOf_2 (by decide) ?_
  refine lv_istore_n (lv' := [(3, .int (nI (0))), (2, .int (nI (0))), (0, .ref (g 0)), (1, .int (nI (X)))]) hx hb dX1_lengthOf_3 rfl hl (by decide) rfl (fun ls hl => ?_)
  have L4 : ∀ (n i : Nat) (x1 : Nat), i ≤ 10 → 11 ≤ i + n → (x1 = sw_ln ln X i) → ∀ (ls : Array Slot), lv_has ls 4 [(0, .ref (g 0)), (1, .int (nI (X))), (2, .int (nI (x1))), (3, .int (nI (i)))] → W P l e R s m args bl mt c s.heap [] 0 0 Q (F0 m 4 ls []) := by
    intro n
    induction n with
    | zero => intro i x1 h1 h2; exact absurd h2 (by omega)
    | succ n ih4 =>
      intro i x1 hi4 hn4 hc ls hl
      refine lv_iload_n hx hb dX1_lengthOf_4 rfl (lv_at hl 3 rfl) ?_
      refine lv_bipush (v := nI 10) hx hb dX1_lengthOf_5 (by decide) ?_
      refine sr_ge (tgt := 38) hx hb (by omega) (by omega) dX1_lengthOf_7 (by decide) (fun c7 => ?_) (fun c7 => ?_)
      · refine lv_iload_n hx hb dX1_lengthOf_38 rfl (lv_at hl 2 rfl) ?_
        exact hret _ _ _ dX1_lengthOf_39 (by rw [hc, show i = 10 by omega])
      · refine lv_iload_n hx hb dX1_lengthOf_10 rfl (lv_at hl 2 rfl) ?_
        refine lv_iload_n hx hb dX1_lengthOf_11 rfl (lv_at hl 1 rfl) ?_
        refine lv_iload_n hx hb dX1_lengthOf_12 rfl (lv_at hl 3 rfl) ?_
        refine sr_bit hx hb (by omega) (by omega) dX1_lengthOf_13 dX1_lengthOf_14 dX1_lengthOf_15 ?_
        refine lv_iconst (v := nI 1) hx hb dX1_lengthOf_16 (by decide) ?_
        refine sr_b1 (tgt := 29) hx hb dX1_lengthOf_17 (by decide) (fun c17 => ?_) (fun c17 => ?_)
        · refine lv_iconst (v := nI 0) hx hb dX1_lengthOf_29 (by decide) ?_
          refine sr_add hx hb dX1_lengthOf_30 ?_
          refine lv_istore_n (lv' := [(2, .int (nI (x1 + 0))), (0, .ref (g 0)), (1, .int (nI (X))), (3, .int (nI (i)))]) hx hb dX1_lengthOf_31 rfl hl (by decide) rfl (fun ls hl => ?_)
          refine lv_iinc (v := nI (i + 1)) (lv' := [(3, .int (nI (i + 1))), (2, .int (nI (x1 + 0))), (0, .ref (g 0)), (1, .int (nI (X)))]) hx hb dX1_lengthOf_32 hl (k := 3) rfl (sn_inc (i)) (by decide) rfl (fun ls hl => ?_)
          refine lv_goto (tgt := 4) hx hb dX1_lengthOf_35 (by decide) ?_
          exact ih4 (i + 1) (x1 + 0) (by omega) (by omega) (by rw [hc, sw_ln_s0 c17]; rfl) ls (lv_sub hl [2, 3, 1, 0] rfl)
        · refine lv_aload_n hx hb dX1_lengthOf_20 rfl (lv_at hl 0 rfl) ?_
          refine mg4 hx hb hts hown hK hP dX1_lengthOf_21 ?_
          refine lv_iload_n hx hb dX1_lengthOf_24 rfl (lv_at hl 3 rfl) ?_
          refine ml4 hx hb hK hP (by omega) dX1_lengthOf_25 ?_
          refine lv_goto (tgt := 30) hx hb dX1_lengthOf_26 (by decide) ?_
          refine sr_add hx hb dX1_lengthOf_30 ?_
          refine lv_istore_n (lv' := [(2, .int (nI ((x1) + (ln (i))))), (0, .ref (g 0)), (1, .int (nI (X))), (3, .int (nI (i)))]) hx hb dX1_lengthOf_31 rfl hl (by decide) rfl (fun ls hl => ?_)
          refine lv_iinc (v := nI (i + 1)) (lv' := [(3, .int (nI (i + 1))), (2, .int (nI ((x1) + (ln (i))))), (0, .ref (g 0)), (1, .int (nI (X)))]) hx hb dX1_lengthOf_32 hl (k := 3) rfl (sn_inc (i)) (by decide) rfl (fun ls hl => ?_)
          refine lv_goto (tgt := 4) hx hb dX1_lengthOf_35 (by decide) ?_
          exact ih4 (i + 1) ((x1) + (ln (i))) (by omega) (by omega) (by rw [hc, sw_ln_s1 c17]) ls (lv_sub hl [2, 3, 1, 0] rfl)
  exact L4 (11) (0) (0) (by omega) (by omega) rfl ls (lv_sub hl [2, 3, 1, 0] rfl)
theorem hdX1_lengthOf : yX1_lengthOf.cls = RX1 ∧ yX1_lengthOf.cls ≠ "java/lang/invoke/MethodHandle" ∧ yX1_lengthOf.cls ≠ "java/lang/invoke/VarHandle" ∧ (parseMethodDescriptor yX1_lengthOf.desc).map (fun d => d.parameters.length) = some 1 := by decide +kernel
set_option maxHeartbeats 4000000 in
set_option maxRecDepth 100000 in
theorem cM_setOf (l : Launch) (D : va_G) (g : Nat → Nat) (k : Nat → ClassId) (p : Nat) (a b ln lf nr : Nat → Nat) {X : Nat} (hX : X < 1024) : Met l yX1_setOf (ws_ yX1_setOf cX1_setOf 4 (some .int)) (sw_rm 0) (va_Pc [.ref (g 0), .int (nI (X))] (fun U => sw_MP D g k p a b ln lf nr U.heap ∧ sw_MK D k U)) (vp_Si (fun r => r = nI (sw_so X 10))) 0 0 (fun _ => False) := by
  refine so_i (own := RX1) (by decide) rfl (Nat.le_of_ble_eq_true rfl) (fun P e R s m args bl mt c Q ls S hR hL hB hl hret => ?_)
  obtain ⟨hP, hK⟩ := hB
  obtain ⟨hx, hb, hml, hown, hts⟩ := id S
  have hl : lv_has ls 4 [(0, .ref (g 0)), (1, .int (nI (X)))] := hl
  refine lv_iconst (v := nI 0) hx hb dX1_setOf_0 (by decide) ?_
  refine lv_istore_n (lv' := [(2, .int (nI (0))), (0, .ref (g 0)), (1, .int (nI (X)))]) hx hb dX1_setOf_1 rfl hl (by decide) rfl (fun ls hl => ?_)
  refine lv_iconst (v := nI 0) hx hb dX1_setOf_2 (by decide) ?_
  refine lv_istore_n (lv' := [(3, .int (nI (0))), (2, .int (nI (0))), (0, .ref (g 0)), (1, .int (nI (X)))]) hx hb dX1_setOf_3 rfl hl (by decide) rfl (fun ls hl => ?_)
  have L4 : ∀ (n i : Nat) (x1 : Nat), i ≤ 10 → 11 ≤ i + n → (x1 = sw_so X i) → ∀ (ls : Array Slot), lv_has ls 4 [(0, .ref (g 0)), (1, .int (nI (X))), (2, .int (nI (x1))), (3, .int (nI (i)))] → W P l e R s m args bl mt c s.heap [] 0 0 Q (F0 m 4 ls []) := by
    intro n
    induction n with
    | zero => intro i x1 h1 h2; exact absurd h2 (by omega)
    | succ n ih4 =>
      intro i x1 hi4 hn4 hc ls hl
      refine lv_iload_n hx hb dX1_setOf_4 rfl (lv_at hl 3 rfl) ?_
      refine lv_bipush (v := nI 10) hx hb dX1_setOf_5 (by decide) ?_
      refine sr_ge (tgt := 29) hx hb (by omega) (by omega) dX1_setOf_7 (by decide) (fun c7 => ?_) (fun c7 => ?_)
      · refine lv_iload_n hx hb dX1_setOf_29 rfl (lv_at hl 2 rfl) ?_
        exact hret _ _ _ dX1_setOf_30 (by rw [hc, show i = 10 by omega])
      · refine lv_iload_n hx hb dX1_setOf_10 rfl (lv_at hl 2 rfl) ?_
        refine lv_iload_n hx hb dX1_setOf_11 rfl (lv_at hl 1 rfl) ?_
        refine lv_bipush (v := nI 9) hx hb dX1_setOf_12 (by decide) ?_
        refine lv_iload_n hx hb dX1_setOf_14 rfl (lv_at hl 3 rfl) ?_
        refine sr_sub hx hb (by omega) dX1_setOf_15 ?_
        refine sr_bit hx hb (by omega) (by omega) dX1_setOf_16 dX1_setOf_17 dX1_setOf_18 ?_
        refine lv_iload_n hx hb dX1_setOf_19 rfl (lv_at hl 3 rfl) ?_
        refine lv_ishl hx hb dX1_setOf_20 ?_
        rw [sn_shb (by omega)]
        refine sr_or hx hb dX1_setOf_21 ?_
        refine lv_istore_n (lv' := [(2, .int (nI ((x1) ||| (if X.testBit (9 - i) = true then 2 ^ i else 0)))), (0, .ref (g 0)), (1, .int (nI (X))), (3, .int (nI (i)))]) hx hb dX1_setOf_22 rfl hl (by decide) rfl (fun ls hl => ?_)
        refine lv_iinc (v := nI (i + 1)) (lv' := [(3, .int (nI (i + 1))), (2, .int (nI ((x1) ||| (if X.testBit (9 - i) = true then 2 ^ i else 0)))), (0, .ref (g 0)), (1, .int (nI (X)))]) hx hb dX1_setOf_23 hl (k := 3) rfl (sn_inc (i)) (by decide) rfl (fun ls hl => ?_)
        refine lv_goto (tgt := 4) hx hb dX1_setOf_26 (by decide) ?_
        exact ih4 (i + 1) ((x1) ||| (if X.testBit (9 - i) = true then 2 ^ i else 0)) (by omega) (by omega) (by rw [hc, sw_so_s]) ls (lv_sub hl [2, 3, 1, 0] rfl)
  exact L4 (11) (0) (0) (by omega) (by omega) rfl ls (lv_sub hl [2, 3, 1, 0] rfl)
theorem hdX1_setOf : yX1_setOf.cls = RX1 ∧ yX1_setOf.cls ≠ "java/lang/invoke/MethodHandle" ∧ yX1_setOf.cls ≠ "java/lang/invoke/VarHandle" ∧ (parseMethodDescriptor yX1_setOf.desc).map (fun d => d.parameters.length) = some 1 := by decide +kernel
end
section
/-! CONTRACTS of StreetWalkerModel: the first least set -/
set_option maxHeartbeats 4000000 in
set_option maxRecDepth 100000 in
theorem cM_first (l : Launch) (D : va_G) (g : Nat → Nat) (k : Nat → ClassId) (p : Nat) (a b ln lf nr : Nat → Nat) {mu nv : Nat} (hp : p < 1024) (hr : sw_rng a b ln) (hmu : mu < 1024) (hnv : nv < 1024) : Met l yX1_first (ws_ yX1_first cX1_first 10 (some .int)) (sw_rm 2) (va_Pc [.ref (g 0), .int (nI (mu)), .int (nI (nv))] (fun U => sw_MP D g k p a b ln lf nr U.heap ∧ sw_MK D k U)) (vp_Si (fun r => ∃ o, r = sw_ov o ∧ sw_fi a b ln p mu nv 1024 o)) 0 0 (fun _ => False) := by
  refine so_i (own := RX1) (by decide) rfl (Nat.le_of_ble_eq_true rfl) (fun P e R s m args bl mt c Q ls S hR hL hB hl hret => ?_)
  obtain ⟨hP, hK⟩ := hB
  obtain ⟨hx, hb, hml, hown, hts⟩ := id S
  have hl : lv_has ls 10 [(0, .ref (g 0)), (1, .int (nI (mu))), (2, .int (nI (nv)))] := hl
  have hT0 := sw_od_lt hr p 10 (Nat.le_refl _)
  refine lv_iconst (v := -1) hx hb dX1_first_0 (by decide) ?_
  refine lv_istore_n (lv' := [(3, .int (-1)), (0, .ref (g 0)), (1, .int (nI (mu))), (2, .int (nI (nv)))]) hx hb dX1_first_1 rfl hl (by decide) rfl (fun ls hl => ?_)
  refine lv_aload_n hx hb dX1_first_2 rfl (lv_at hl 1 rfl) ?_
  refine mc_ro (As := []) (n := 0) S (cM_streets l D g k p a b ln lf nr hp) (lw_V q211 q204 q205 q22 q206) hdX1_streets (by omega) (by omega) (by decide) (Nat.zero_le _) (Nat.zero_le _) hK hP rfl hl.1 (Nat.le_of_ble_eq_true rfl) dX1_first_3 rfl (fun r hq => ?_)
  subst hq
  refine lv_istore (lv' := [(4, .int (nI (p))), (3, .int (-1)), (0, .ref (g 0)), (1, .int (nI (mu))), (2, .int (nI (nv)))]) hx hb dX1_first_6 hl (by decide) rfl (fun ls hl => ?_)
  refine lv_aload_n hx hb dX1_first_8 rfl (lv_at hl 2 rfl) ?_
  refine mc_ro (As := []) (n := 0) S (cM_odd l D g k p a b ln lf nr hp hr) (lw_V q236 q208 q209 q22 q210) hdX1_odd (by omega) (by omega) (by decide) (Nat.zero_le _) (Nat.zero_le _) hK hP rfl hl.1 (Nat.le_of_ble_eq_true rfl) dX1_first_9 rfl (fun r hq => ?_)
  subst hq
  refine lv_istore (lv' := [(5, .int (nI (sw_od a b p 10))), (4, .int (nI (p))), (3, .int (-1)), (0, .ref (g 0)), (1, .int (nI (mu))), (2, .int (nI (nv)))]) hx hb dX1_first_12 hl (by decide) rfl (fun ls hl => ?_)
  refine lv_iconst (v := nI 0) hx hb dX1_first_14 (by decide) ?_
  refine lv_istore (lv' := [(6, .int (nI (0))), (5, .int (nI (sw_od a b p 10))), (4, .int (nI (p))), (3, .int (-1)), (0, .ref (g 0)), (1, .int (nI (mu))), (2, .int (nI (nv)))]) hx hb dX1_first_15 hl (by decide) rfl (fun ls hl => ?_)
  have L17 : ∀ (n i : Nat) (o : Option Nat), i ≤ 1024 → 1025 ≤ i + n → (sw_fi a b ln p mu nv i o) → ∀ (ls : Array Slot), lv_has ls 10 [(0, .ref (g 0)), (1, .int (nI (mu))), (2, .int (nI (nv))), (3, .int (sw_ov o)), (4, .int (nI (p))), (5, .int (nI (sw_od a b p 10))), (6, .int (nI (i)))] → W P l e R s m args bl mt c s.heap [] 0 0 Q (F0 m 17 ls []) := by
    intro n
    induction n with
    | zero => intro i o h1 h2; exact absurd h2 (by omega)
    | succ n ih17 =>
      intro i o hi17 hn17 ho ls hl
      refine lv_iload hx hb dX1_first_17 (lv_at hl 6 rfl) ?_
      refine lv_sipush (v := nI 1024) hx hb dX1_first_19 (by decide) ?_
      refine sr_ge (tgt := 113) hx hb (by omega) (by omega) dX1_first_22 (by decide) (fun c22 => ?_) (fun c22 => ?_)
      · refine lv_iload_n hx hb dX1_first_113 rfl (lv_at hl 3 rfl) ?_
        exact hret _ _ _ dX1_first_114 ⟨o, rfl, ek_v (P := fun z => sw_fi a b ln p mu nv z o) (show 1024 = i by omega) ho⟩
      · refine lv_aload_n hx hb dX1_first_25 rfl (lv_at hl 0 rfl) ?_
        refine lv_iload hx hb dX1_first_26 (lv_at hl 6 rfl) ?_
        refine mc_ro (As := [.int (nI (i))]) (n := 1) S (cM_setOf l D g k p a b ln lf nr (by omega)) (lw_V q237 q239 qs16 q22 q240) hdX1_setOf (by omega) (by omega) (by decide) (Nat.zero_le _) (Nat.zero_le _) hK hP rfl hl.1 (Nat.le_of_ble_eq_true rfl) dX1_first_28 rfl (fun r hq => ?_)
        subst hq
        refine lv_istore (lv' := [(7, .int (nI (sw_so i 10))), (0, .ref (g 0)), (1, .int (nI (mu))), (2, .int (nI (nv))), (3, .int (sw_ov o)), (4, .int (nI (p))), (5, .int (nI (sw_od a b p 10))), (6, .int (nI (i)))]) hx hb dX1_first_31 hl (by decide) rfl (fun ls hl => ?_)
        have hso := sw_so_lt i
        refine lv_iload hx hb dX1_first_33 (lv_at hl 0 rfl) ?_
        refine lv_iload hx hb dX1_first_35 (lv_at hl 5 rfl) ?_
        refine sr_not hx hb dX1_first_37 dX1_first_38 dX1_first_39 ?_
        refine sr_ne0 (tgt := 107) hx hb (sw_an_lt (by omega)) dX1_first_40 (by decide) (fun c40 => ?_) (fun c40 => ?_)
        · refine lv_iinc (v := nI (i + 1)) (lv' := [(6, .int (nI (i + 1))), (7, .int (nI (sw_so i 10))), (0, .ref (g 0)), (1, .int (nI (mu))), (2, .int (nI (nv))), (3, .int (sw_ov o)), (4, .int (nI (p))), (5, .int (nI (sw_od a b p 10)))]) hx hb dX1_first_107 hl (k := 7) rfl (sn_inc (i)) (by decide) rfl (fun ls hl => ?_)
          refine lv_goto (tgt := 17) hx hb dX1_first_110 (by decide) ?_
          exact ih17 (i + 1) (o) (by omega) (by omega) (sw_fi_n ho (fun q => c40 (sw_an_zero.mpr q.1))) ls (lv_sub hl [2, 3, 4, 5, 6, 7, 0] rfl)
        · refine lv_iload hx hb dX1_first_43 (lv_at hl 0 rfl) ?_
          refine lv_iload_n hx hb dX1_first_45 rfl (lv_at hl 2 rfl) ?_
          refine sr_and hx hb dX1_first_46 ?_
          refine lv_iload_n hx hb dX1_first_47 rfl (lv_at hl 2 rfl) ?_
          refine sr_ne (tgt := 107) hx hb (sw_and_lt (by omega)) (by omega) dX1_first_48 (by decide) (fun c48 => ?_) (fun c48 => ?_)
          · refine lv_iinc (v := nI (i + 1)) (lv' := [(6, .int (nI (i + 1))), (7, .int (nI (sw_so i 10))), (0, .ref (g 0)), (1, .int (nI (mu))), (2, .int (nI (nv))), (3, .int (sw_ov o)), (4, .int (nI (p))), (5, .int (nI (sw_od a b p 10)))]) hx hb dX1_first_107 hl (k := 7) rfl (sn_inc (i)) (by decide) rfl (fun ls hl => ?_)
            refine lv_goto (tgt := 17) hx hb dX1_first_110 (by decide) ?_
            exact ih17 (i + 1) (o) (by omega) (by omega) (sw_fi_n ho (fun q => c48 (sw_and_sub.mpr q.2.1))) ls (lv_sub hl [2, 3, 4, 5, 6, 7, 0] rfl)
          · refine lv_iload hx hb dX1_first_51 (lv_at hl 0 rfl) ?_
            refine lv_iload_n hx hb dX1_first_53 rfl (lv_at hl 3 rfl) ?_
            refine sr_and hx hb dX1_first_54 ?_
            refine sr_ne0 (tgt := 107) hx hb (sw_and_lt (by omega)) dX1_first_55 (by decide) (fun c55 => ?_) (fun c55 => ?_)
            · refine lv_iinc (v := nI (i + 1)) (lv' := [(6, .int (nI (i + 1))), (7, .int (nI (sw_so i 10))), (0, .ref (g 0)), (1, .int (nI (mu))), (2, .int (nI (nv))), (3, .int (sw_ov o)), (4, .int (nI (p))), (5, .int (nI (sw_od a b p 10)))]) hx hb dX1_first_107 hl (k := 7) rfl (sn_inc (i)) (by decide) rfl (fun ls hl => ?_)
              refine lv_goto (tgt := 17) hx hb dX1_first_110 (by decide) ?_
              exact ih17 (i + 1) (o) (by omega) (by omega) (sw_fi_n ho (fun q => c55 q.2.2.1)) ls (lv_sub hl [2, 3, 4, 5, 6, 7, 0] rfl)
            · refine lv_aload_n hx hb dX1_first_58 rfl (lv_at hl 1 rfl) ?_
              refine lv_iload hx hb dX1_first_59 (lv_at hl 0 rfl) ?_
              refine mc_ro (As := [.int (nI (sw_so i 10))]) (n := 1) S (cM_oddOf l D g k p a b ln lf nr hr (sw_so_lt i)) (lw_V q212 q214 qs12 q22 q215) hdX1_oddOf (by omega) (by omega) (by decide) (Nat.zero_le _) (Nat.zero_le _) hK hP rfl hl.1 (Nat.le_of_ble_eq_true rfl) dX1_first_61 rfl (fun r hq => ?_)
              subst hq
              refine lv_iload hx hb dX1_first_64 (lv_at hl 6 rfl) ?_
              refine sr_ne (tgt := 107) hx hb (by have := sw_od_lt hr (sw_so i 10) 10 (Nat.le_refl _); omega) (by omega) dX1_first_66 (by decide) (fun c66 => ?_) (fun c66 => ?_)
              · refine lv_iinc (v := nI (i + 1)) (lv' := [(6, .int (nI (i + 1))), (7, .int (nI (sw_so i 10))), (0, .ref (g 0)), (1, .int (nI (mu))), (2, .int (nI (nv))), (3, .int (sw_ov o)), (4, .int (nI (p))), (5, .int (nI (sw_od a b p 10)))]) hx hb dX1_first_107 hl (k := 7) rfl (sn_inc (i)) (by decide) rfl (fun ls hl => ?_)
                refine lv_goto (tgt := 17) hx hb dX1_first_110 (by decide) ?_
                exact ih17 (i + 1) (o) (by omega) (by omega) (sw_fi_n ho (fun q => c66 q.2.2.2)) ls (lv_sub hl [2, 3, 4, 5, 6, 7, 0] rfl)
              · have hq0 : sw_q a b p mu nv (sw_so i 10) := ⟨sw_an_zero.mp c40, sw_and_sub.mp c48, c55, c66⟩
                have hol : ∀ n, o = some n → n < 2 ^ 31 := fun n e => by have := sw_fi_lt ho n e; omega
                have hln := sw_ln_bound (l := ln) (sw_so i 10) 10 (fun s hs => (hr s hs).2.2)
                refine lv_aload_n hx hb dX1_first_69 rfl (lv_at hl 1 rfl) ?_
                refine lv_iload hx hb dX1_first_70 (lv_at hl 0 rfl) ?_
                refine mc_ro (As := [.int (nI (sw_so i 10))]) (n := 1) S (cM_lengthOf l D g k p a b ln lf nr (sw_so_lt i)) (lw_V q241 q243 qs17 q22 q244) hdX1_lengthOf (by omega) (by omega) (by decide) (Nat.zero_le _) (Nat.zero_le _) hK hP rfl hl.1 (Nat.le_of_ble_eq_true rfl) dX1_first_72 rfl (fun r hq => ?_)
                subst hq
                refine lv_istore (lv' := [(8, .int (nI (sw_ln ln (sw_so i 10) 10))), (7, .int (nI (sw_so i 10))), (0, .ref (g 0)), (1, .int (nI (mu))), (2, .int (nI (nv))), (3, .int (sw_ov o)), (4, .int (nI (p))), (5, .int (nI (sw_od a b p 10))), (6, .int (nI (i)))]) hx hb dX1_first_75 hl (by decide) rfl (fun ls hl => ?_)
                refine lv_iload_n hx hb dX1_first_77 rfl (lv_at hl 5 rfl) ?_
                refine lv_if_ge (tgt := 86) hx hb dX1_first_78 (by decide) (fun c78 => ?_) (fun c78 => ?_)
                · obtain ⟨B, rfl⟩ := (sn_ov_pos hol).mp c78
                  have hB := sw_fi_lt ho B rfl
                  have hl : lv_has ls 10 [(8, .int (nI (sw_ln ln (sw_so i 10) 10))), (7, .int (nI (sw_so i 10))), (0, .ref (g 0)), (1, .int (nI (mu))), (2, .int (nI (nv))), (3, .int (nI (B))), (4, .int (nI (p))), (5, .int (nI (sw_od a b p 10))), (6, .int (nI (i)))] := hl
                  have hlB := sw_ln_bound (l := ln) B 10 (fun s hs => (hr s hs).2.2)
                  refine lv_aload_n hx hb dX1_first_86 rfl (lv_at hl 2 rfl) ?_
                  refine lv_iload_n hx hb dX1_first_87 rfl (lv_at hl 5 rfl) ?_
                  refine mc_ro (As := [.int (nI (B))]) (n := 1) S (cM_lengthOf l D g k p a b ln lf nr hB) (lw_V q241 q243 qs17 q22 q244) hdX1_lengthOf (by omega) (by omega) (by decide) (Nat.zero_le _) (Nat.zero_le _) hK hP rfl hl.1 (Nat.le_of_ble_eq_true rfl) dX1_first_88 rfl (fun r hq => ?_)
                  subst hq
                  refine lv_istore (lv' := [(9, .int (nI (sw_ln ln B 10))), (8, .int (nI (sw_ln ln (sw_so i 10) 10))), (7, .int (nI (sw_so i 10))), (0, .ref (g 0)), (1, .int (nI (mu))), (2, .int (nI (nv))), (3, .int (nI (B))), (4, .int (nI (p))), (5, .int (nI (sw_od a b p 10))), (6, .int (nI (i)))]) hx hb dX1_first_91 hl (by decide) rfl (fun ls hl => ?_)
                  refine lv_iload hx hb dX1_first_93 (lv_at hl 1 rfl) ?_
                  refine lv_iload hx hb dX1_first_95 (lv_at hl 0 rfl) ?_
                  refine sr_ge (tgt := 105) hx hb (by omega) (by omega) dX1_first_97 (by decide) (fun c97 => ?_) (fun c97 => ?_)
                  · refine lv_iload_n hx hb dX1_first_105 rfl (lv_at hl 6 rfl) ?_
                    refine lv_istore_n (lv' := [(3, .int (nI (B))), (9, .int (nI (sw_ln ln B 10))), (8, .int (nI (sw_ln ln (sw_so i 10) 10))), (7, .int (nI (sw_so i 10))), (0, .ref (g 0)), (1, .int (nI (mu))), (2, .int (nI (nv))), (4, .int (nI (p))), (5, .int (nI (sw_od a b p 10))), (6, .int (nI (i)))]) hx hb dX1_first_106 rfl hl (by decide) rfl (fun ls hl => ?_)
                    refine lv_iinc (v := nI (i + 1)) (lv' := [(6, .int (nI (i + 1))), (3, .int (nI (B))), (9, .int (nI (sw_ln ln B 10))), (8, .int (nI (sw_ln ln (sw_so i 10) 10))), (7, .int (nI (sw_so i 10))), (0, .ref (g 0)), (1, .int (nI (mu))), (2, .int (nI (nv))), (4, .int (nI (p))), (5, .int (nI (sw_od a b p 10)))]) hx hb dX1_first_107 hl (k := 9) rfl (sn_inc (i)) (by decide) rfl (fun ls hl => ?_)
                    refine lv_goto (tgt := 17) hx hb dX1_first_110 (by decide) ?_
                    exact ih17 (i + 1) (some B) (by omega) (by omega) (sw_fi_keep ho (by omega)) ls (lv_sub hl [5, 6, 7, 1, 8, 9, 0] rfl)
                  · refine lv_iload hx hb dX1_first_100 (lv_at hl 2 rfl) ?_
                    refine lv_goto (tgt := 106) hx hb dX1_first_102 (by decide) ?_
                    refine lv_istore_n (lv' := [(3, .int (nI (sw_so i 10))), (9, .int (nI (sw_ln ln B 10))), (8, .int (nI (sw_ln ln (sw_so i 10) 10))), (7, .int (nI (sw_so i 10))), (0, .ref (g 0)), (1, .int (nI (mu))), (2, .int (nI (nv))), (4, .int (nI (p))), (5, .int (nI (sw_od a b p 10))), (6, .int (nI (i)))]) hx hb dX1_first_106 rfl hl (by decide) rfl (fun ls hl => ?_)
                    refine lv_iinc (v := nI (i + 1)) (lv' := [(6, .int (nI (i + 1))), (3, .int (nI (sw_so i 10))), (9, .int (nI (sw_ln ln B 10))), (8, .int (nI (sw_ln ln (sw_so i 10) 10))), (7, .int (nI (sw_so i 10))), (0, .ref (g 0)), (1, .int (nI (mu))), (2, .int (nI (nv))), (4, .int (nI (p))), (5, .int (nI (sw_od a b p 10)))]) hx hb dX1_first_107 hl (k := 9) rfl (sn_inc (i)) (by decide) rfl (fun ls hl => ?_)
                    refine lv_goto (tgt := 17) hx hb dX1_first_110 (by decide) ?_
                    exact ih17 (i + 1) (some (sw_so i 10)) (by omega) (by omega) (sw_fi_new ho hq0 (fun B e => by cases e; exact c97)) ls (lv_sub hl [5, 6, 7, 1, 8, 9, 0] rfl)
                · obtain rfl : o = none := by
                    cases o with
                    | none => rfl
                    | some B => exact absurd ((sn_ov_pos hol).mpr ⟨B, rfl⟩) c78
                  refine lv_ldc (v := nI 100000) hx hb hown (hts _ q245) dX1_first_81 ?_
                  refine lv_goto (tgt := 91) hx hb dX1_first_83 (by decide) ?_
                  refine lv_istore (lv' := [(9, .int (nI (100000))), (8, .int (nI (sw_ln ln (sw_so i 10) 10))), (7, .int (nI (sw_so i 10))), (0, .ref (g 0)), (1, .int (nI (mu))), (2, .int (nI (nv))), (3, .int (sw_ov none)), (4, .int (nI (p))), (5, .int (nI (sw_od a b p 10))), (6, .int (nI (i)))]) hx hb dX1_first_91 hl (by decide) rfl (fun ls hl => ?_)
                  refine lv_iload hx hb dX1_first_93 (lv_at hl 1 rfl) ?_
                  refine lv_iload hx hb dX1_first_95 (lv_at hl 0 rfl) ?_
                  refine sr_ge (tgt := 105) hx hb (by omega) (by omega) dX1_first_97 (by decide) (fun c97 => by exfalso; omega) (fun c97 => ?_)
                  refine lv_iload hx hb dX1_first_100 (lv_at hl 2 rfl) ?_
                  refine lv_goto (tgt := 106) hx hb dX1_first_102 (by decide) ?_
                  refine lv_istore_n (lv' := [(3, .int (nI (sw_so i 10))), (9, .int (nI (100000))), (8, .int (nI (sw_ln ln (sw_so i 10) 10))), (7, .int (nI (sw_so i 10))), (0, .ref (g 0)), (1, .int (nI (mu))), (2, .int (nI (nv))), (4, .int (nI (p))), (5, .int (nI (sw_od a b p 10))), (6, .int (nI (i)))]) hx hb dX1_first_106 rfl hl (by decide) rfl (fun ls hl => ?_)
                  refine lv_iinc (v := nI (i + 1)) (lv' := [(6, .int (nI (i + 1))), (3, .int (nI (sw_so i 10))), (9, .int (nI (100000))), (8, .int (nI (sw_ln ln (sw_so i 10) 10))), (7, .int (nI (sw_so i 10))), (0, .ref (g 0)), (1, .int (nI (mu))), (2, .int (nI (nv))), (4, .int (nI (p))), (5, .int (nI (sw_od a b p 10)))]) hx hb dX1_first_107 hl (k := 9) rfl (sn_inc (i)) (by decide) rfl (fun ls hl => ?_)
                  refine lv_goto (tgt := 17) hx hb dX1_first_110 (by decide) ?_
                  exact ih17 (i + 1) (some (sw_so i 10)) (by omega) (by omega) (sw_fi_new ho hq0 (fun B e => by cases e)) ls (lv_sub hl [5, 6, 7, 1, 8, 9, 0] rfl)
  exact L17 (1025) (0) (none) (by omega) (by omega) (sw_fi_0 a b ln p mu nv) ls (lv_sub hl [4, 5, 6, 3, 2, 1, 0] rfl)
theorem hdX1_first : yX1_first.cls = RX1 ∧ yX1_first.cls ≠ "java/lang/invoke/MethodHandle" ∧ yX1_first.cls ≠ "java/lang/invoke/VarHandle" ∧ (parseMethodDescriptor yX1_first.desc).map (fun d => d.parameters.length) = some 2 := by decide +kernel
set_option maxHeartbeats 4000000 in
set_option maxRecDepth 100000 in
theorem cM_extra (l : Launch) (D : va_G) (g : Nat → Nat) (k : Nat → ClassId) (p : Nat) (a b ln lf nr : Nat → Nat)  (hp : p < 1024) (hr : sw_rng a b ln) : Met l yX1_extra (ws_ yX1_extra cX1_extra 2 (some .int)) (sw_rm 3) (va_Pc [.ref (g 0)] (fun U => sw_MP D g k p a b ln lf nr U.heap ∧ sw_MK D k U)) (vp_Si (fun r => ∃ B, sw_fi a b ln p 0 0 1024 (some B) ∧ r = nI (sw_ln ln B 10))) 0 0 (fun _ => False) := by
  refine so_i (own := RX1) (by decide) rfl (Nat.le_of_ble_eq_true rfl) (fun P e R s m args bl mt c Q ls S hR hL hB hl hret => ?_)
  obtain ⟨hP, hK⟩ := hB
  obtain ⟨hx, hb, hml, hown, hts⟩ := id S
  have hl : lv_has ls 2 [(0, .ref (g 0))] := hl
  refine lv_aload_n hx hb dX1_extra_0 rfl (lv_at hl 0 rfl) ?_
  refine lv_iconst (v := nI 0) hx hb dX1_extra_1 (by decide) ?_
  refine lv_iconst (v := nI 0) hx hb dX1_extra_2 (by decide) ?_
  refine mc_ro (As := [.int (nI (0)), .int (nI (0))]) (n := 2) S (cM_first l D g k p a b ln lf nr hp hr (by omega) (by omega)) (lw_V q232 q234 qs15 q22 q235) hdX1_first (by omega) (by omega) (by decide) (Nat.zero_le _) (Nat.zero_le _) hK hP rfl hl.1 (Nat.le_of_ble_eq_true rfl) dX1_extra_3 rfl (fun r hq => ?_)
  obtain ⟨o, rfl, ho⟩ := hq
  obtain ⟨B, rfl⟩ := sw_fi_ex hp ho
  have hB := sw_fi_lt ho B rfl
  refine lv_istore_n (lv' := [(1, .int (nI (B))), (0, .ref (g 0))]) hx hb dX1_extra_6 rfl hl (by decide) rfl (fun ls hl => ?_)
  refine lv_iload_n hx hb dX1_extra_7 rfl (lv_at hl 0 rfl) ?_
  refine lv_if_ge (tgt := 15) hx hb dX1_extra_8 (by decide) (fun c8 => ?_) (fun c8 => by exact absurd (nI_pos' (by omega)) c8)
  refine lv_aload_n hx hb dX1_extra_15 rfl (lv_at hl 1 rfl) ?_
  refine lv_iload_n hx hb dX1_extra_16 rfl (lv_at hl 0 rfl) ?_
  refine mc_ro (As := [.int (nI (B))]) (n := 1) S (cM_lengthOf l D g k p a b ln lf nr hB) (lw_V q241 q243 qs17 q22 q244) hdX1_lengthOf (by omega) (by omega) (by decide) (Nat.zero_le _) (Nat.zero_le _) hK hP rfl hl.1 (Nat.le_of_ble_eq_true rfl) dX1_extra_17 rfl (fun r hq => ?_)
  subst hq
  exact hret _ _ _ dX1_extra_20 ⟨B, ho, rfl⟩
theorem hdX1_extra : yX1_extra.cls = RX1 ∧ yX1_extra.cls ≠ "java/lang/invoke/MethodHandle" ∧ yX1_extra.cls ≠ "java/lang/invoke/VarHandle" ∧ (parseMethodDescriptor yX1_extra.desc).map (fun d => d.parameters.length) = some 0 := by decide +kernel
set_option maxHeartbeats 4000000 in
set_option maxRecDepth 100000 in
theorem cM_bestSet (l : Launch) (D : va_G) (g : Nat → Nat) (k : Nat → ClassId) (p : Nat) (a b ln lf nr : Nat → Nat)  (hp : p < 1024) (hr : sw_rng a b ln) : Met l yX1_bestSet (ws_ yX1_bestSet cX1_bestSet 1 (some .int)) (sw_rm 3) (va_Pc [.ref (g 0)] (fun U => sw_MP D g k p a b ln lf nr U.heap ∧ sw_MK D k U)) (vp_Si (fun r => ∃ B, sw_fi a b ln p 0 0 1024 (some B) ∧ r = nI B)) 0 0 (fun _ => False) := by
  refine so_i (own := RX1) (by decide) rfl (Nat.le_of_ble_eq_true rfl) (fun P e R s m args bl mt c Q ls S hR hL hB hl hret => ?_)
  obtain ⟨hP, hK⟩ := hB
  obtain ⟨hx, hb, hml, hown, hts⟩ := id S
  have hl : lv_has ls 1 [(0, .ref (g 0))] := hl
  refine lv_aload_n hx hb dX1_bestSet_0 rfl (lv_at hl 0 rfl) ?_
  refine lv_iconst (v := nI 0) hx hb dX1_bestSet_1 (by decide) ?_
  refine lv_iconst (v := nI 0) hx hb dX1_bestSet_2 (by decide) ?_
  refine mc_ro (As := [.int (nI (0)), .int (nI (0))]) (n := 2) S (cM_first l D g k p a b ln lf nr hp hr (by omega) (by omega)) (lw_V q232 q234 qs15 q22 q235) hdX1_first (by omega) (by omega) (by decide) (Nat.zero_le _) (Nat.zero_le _) hK hP rfl hl.1 (Nat.le_of_ble_eq_true rfl) dX1_bestSet_3 rfl (fun r hq => ?_)
  obtain ⟨o, rfl, ho⟩ := hq
  obtain ⟨B, rfl⟩ := sw_fi_ex hp ho
  have hB := sw_fi_lt ho B rfl
  exact hret _ _ _ dX1_bestSet_6 ⟨B, ho, rfl⟩
theorem hdX1_bestSet : yX1_bestSet.cls = RX1 ∧ yX1_bestSet.cls ≠ "java/lang/invoke/MethodHandle" ∧ yX1_bestSet.cls ≠ "java/lang/invoke/VarHandle" ∧ (parseMethodDescriptor yX1_bestSet.desc).map (fun d => d.parameters.length) = some 0 := by decide +kernel
set_option maxHeartbeats 4000000 in
set_option maxRecDepth 100000 in
theorem cM_extraWith (l : Launch) (D : va_G) (g : Nat → Nat) (k : Nat → ClassId) (p : Nat) (a b ln lf nr : Nat → Nat) (x : Int32) (hp : p < 1024) (hr : sw_rng a b ln) : Met l yX1_extraWith (ws_ yX1_extraWith cX1_extraWith 3 (some .int)) (sw_rm 3) (va_Pc [.ref (g 0), .int (x)] (fun U => sw_MP D g k p a b ln lf nr U.heap ∧ sw_MK D k U)) (vp_Si (fun r => (sw_has p x = false ∧ r = -1) ∨ ∃ s o, s < 10 ∧ x = nI s ∧ p.testBit s = true ∧ sw_fi a b ln p (2 ^ s) 0 1024 o ∧ r = sw_ol ln o)) 0 0 (fun _ => False) := by
  refine so_i (own := RX1) (by decide) rfl (Nat.le_of_ble_eq_true rfl) (fun P e R s m args bl mt c Q ls S hR hL hB hl hret => ?_)
  obtain ⟨hP, hK⟩ := hB
  obtain ⟨hx, hb, hml, hown, hts⟩ := id S
  have hl : lv_has ls 3 [(0, .ref (g 0)), (1, .int (x))] := hl
  refine lv_aload_n hx hb dX1_extraWith_0 rfl (lv_at hl 0 rfl) ?_
  refine lv_iload_n hx hb dX1_extraWith_1 rfl (lv_at hl 1 rfl) ?_
  refine mc_ro (As := [.int (x)]) (n := 1) S (cM_street l D g k p a b ln lf nr x) (lw_V q195 q197 qs11 q22 q198) hdX1_street (by omega) (by omega) (by decide) (Nat.zero_le _) (Nat.zero_le _) hK hP rfl hl.1 (Nat.le_of_ble_eq_true rfl) dX1_extraWith_2 rfl (fun r hq => ?_)
  subst hq
  refine sr_bt (tgt := 10) hx hb dX1_extraWith_5 (by decide) (fun c5 => ?_) (fun c5 => ?_)
  · obtain ⟨s0, hs0, rfl, hps⟩ := sn_has_t c5
    have hp2 := sw_p1024 hs0
    refine lv_aload_n hx hb dX1_extraWith_10 rfl (lv_at hl 0 rfl) ?_
    refine lv_iconst (v := nI 1) hx hb dX1_extraWith_11 (by decide) ?_
    refine lv_iload_n hx hb dX1_extraWith_12 rfl (lv_at hl 1 rfl) ?_
    refine sr_shl hx hb (by omega) dX1_extraWith_13 ?_
    refine lv_iconst (v := nI 0) hx hb dX1_extraWith_14 (by decide) ?_
    refine mc_ro (As := [.int (nI (2 ^ (s0))), .int (nI (0))]) (n := 2) S (cM_first l D g k p a b ln lf nr hp hr (by omega) (by omega)) (lw_V q232 q234 qs15 q22 q235) hdX1_first (by omega) (by omega) (by decide) (Nat.zero_le _) (Nat.zero_le _) hK hP rfl hl.1 (Nat.le_of_ble_eq_true rfl) dX1_extraWith_15 rfl (fun r hq => ?_)
    obtain ⟨o, rfl, ho⟩ := hq
    have hol : ∀ n, o = some n → n < 2 ^ 31 := fun n e => by have := sw_fi_lt ho n e; omega
    refine lv_istore_n (lv' := [(2, .int (sw_ov o)), (0, .ref (g 0)), (1, .int (nI (s0)))]) hx hb dX1_extraWith_18 rfl hl (by decide) rfl (fun ls hl => ?_)
    refine lv_iload_n hx hb dX1_extraWith_19 rfl (lv_at hl 0 rfl) ?_
    refine lv_if_ge (tgt := 27) hx hb dX1_extraWith_20 (by decide) (fun c20 => ?_) (fun c20 => ?_)
    · obtain ⟨B, rfl⟩ := (sn_ov_pos hol).mp c20
      have hB := sw_fi_lt ho B rfl
      have hl : lv_has ls 3 [(2, .int (nI (B))), (0, .ref (g 0)), (1, .int (nI (s0)))] := hl
      refine lv_aload_n hx hb dX1_extraWith_27 rfl (lv_at hl 1 rfl) ?_
      refine lv_iload_n hx hb dX1_extraWith_28 rfl (lv_at hl 0 rfl) ?_
      refine mc_ro (As := [.int (nI (B))]) (n := 1) S (cM_lengthOf l D g k p a b ln lf nr hB) (lw_V q241 q243 qs17 q22 q244) hdX1_lengthOf (by omega) (by omega) (by decide) (Nat.zero_le _) (Nat.zero_le _) hK hP rfl hl.1 (Nat.le_of_ble_eq_true rfl) dX1_extraWith_29 rfl (fun r hq => ?_)
      subst hq
      exact hret _ _ _ dX1_extraWith_32 (Or.inr ⟨s0, some B, hs0, rfl, hps, ho, rfl⟩)
    · obtain rfl : o = none := by
        cases o with
        | none => rfl
        | some B => exact absurd ((sn_ov_pos hol).mpr ⟨B, rfl⟩) c20
      refine lv_iconst (v := -1) hx hb dX1_extraWith_23 (by decide) ?_
      refine lv_goto (tgt := 32) hx hb dX1_extraWith_24 (by decide) ?_
      exact hret _ _ _ dX1_extraWith_32 (Or.inr ⟨s0, none, hs0, rfl, hps, ho, rfl⟩)
  · refine lv_iconst (v := -1) hx hb dX1_extraWith_8 (by decide) ?_
    exact hret _ _ _ dX1_extraWith_9 (Or.inl ⟨c5, rfl⟩)
theorem hdX1_extraWith : yX1_extraWith.cls = RX1 ∧ yX1_extraWith.cls ≠ "java/lang/invoke/MethodHandle" ∧ yX1_extraWith.cls ≠ "java/lang/invoke/VarHandle" ∧ (parseMethodDescriptor yX1_extraWith.desc).map (fun d => d.parameters.length) = some 1 := by decide +kernel
set_option maxHeartbeats 4000000 in
set_option maxRecDepth 100000 in
theorem cM_extraWithout (l : Launch) (D : va_G) (g : Nat → Nat) (k : Nat → ClassId) (p : Nat) (a b ln lf nr : Nat → Nat) (x : Int32) (hp : p < 1024) (hr : sw_rng a b ln) : Met l yX1_extraWithout (ws_ yX1_extraWithout cX1_extraWithout 3 (some .int)) (sw_rm 3) (va_Pc [.ref (g 0), .int (x)] (fun U => sw_MP D g k p a b ln lf nr U.heap ∧ sw_MK D k U)) (vp_Si (fun r => (sw_has p x = false ∧ r = -1) ∨ ∃ s o, s < 10 ∧ x = nI s ∧ p.testBit s = true ∧ sw_fi a b ln p 0 (2 ^ s) 1024 o ∧ r = sw_ol ln o)) 0 0 (fun _ => False) := by
  refine so_i (own := RX1) (by decide) rfl (Nat.le_of_ble_eq_true rfl) (fun P e R s m args bl mt c Q ls S hR hL hB hl hret => ?_)
  obtain ⟨hP, hK⟩ := hB
  obtain ⟨hx, hb, hml, hown, hts⟩ := id S
  have hl : lv_has ls 3 [(0, .ref (g 0)), (1, .int (x))] := hl
  refine lv_aload_n hx hb dX1_extraWithout_0 rfl (lv_at hl 0 rfl) ?_
  refine lv_iload_n hx hb dX1_extraWithout_1 rfl (lv_at hl 1 rfl) ?_
  refine mc_ro (As := [.int (x)]) (n := 1) S (cM_street l D g k p a b ln lf nr x) (lw_V q195 q197 qs11 q22 q198) hdX1_street (by omega) (by omega) (by decide) (Nat.zero_le _) (Nat.zero_le _) hK hP rfl hl.1 (Nat.le_of_ble_eq_true rfl) dX1_extraWithout_2 rfl (fun r hq => ?_)
  subst hq
  refine sr_bt (tgt := 10) hx hb dX1_extraWithout_5 (by decide) (fun c5 => ?_) (fun c5 => ?_)
  · obtain ⟨s0, hs0, rfl, hps⟩ := sn_has_t c5
    have hp2 := sw_p1024 hs0
    refine lv_aload_n hx hb dX1_extraWithout_10 rfl (lv_at hl 0 rfl) ?_
    refine lv_iconst (v := nI 0) hx hb dX1_extraWithout_11 (by decide) ?_
    refine lv_iconst (v := nI 1) hx hb dX1_extraWithout_12 (by decide) ?_
    refine lv_iload_n hx hb dX1_extraWithout_13 rfl (lv_at hl 1 rfl) ?_
    refine sr_shl hx hb (by omega) dX1_extraWithout_14 ?_
    refine mc_ro (As := [.int (nI (0)), .int (nI (2 ^ (s0)))]) (n := 2) S (cM_first l D g k p a b ln lf nr hp hr (by omega) (by omega)) (lw_V q232 q234 qs15 q22 q235) hdX1_first (by omega) (by omega) (by decide) (Nat.zero_le _) (Nat.zero_le _) hK hP rfl hl.1 (Nat.le_of_ble_eq_true rfl) dX1_extraWithout_15 rfl (fun r hq => ?_)
    obtain ⟨o, rfl, ho⟩ := hq
    have hol : ∀ n, o = some n → n < 2 ^ 31 := fun n e => by have := sw_fi_lt ho n e; omega
    refine lv_istore_n (lv' := [(2, .int (sw_ov o)), (0, .ref (g 0)), (1, .int (nI (s0)))]) hx hb dX1_extraWithout_18 rfl hl (by decide) rfl (fun ls hl => ?_)
    refine lv_iload_n hx hb dX1_extraWithout_19 rfl (lv_at hl 0 rfl) ?_
    refine lv_if_ge (tgt := 27) hx hb dX1_extraWithout_20 (by decide) (fun c20 => ?_) (fun c20 => ?_)
    · obtain ⟨B, rfl⟩ := (sn_ov_pos hol).mp c20
      have hB := sw_fi_lt ho B rfl
      have hl : lv_has ls 3 [(2, .int (nI (B))), (0, .ref (g 0)), (1, .int (nI (s0)))] := hl
      refine lv_aload_n hx hb dX1_extraWithout_27 rfl (lv_at hl 1 rfl) ?_
      refine lv_iload_n hx hb dX1_extraWithout_28 rfl (lv_at hl 0 rfl) ?_
      refine mc_ro (As := [.int (nI (B))]) (n := 1) S (cM_lengthOf l D g k p a b ln lf nr hB) (lw_V q241 q243 qs17 q22 q244) hdX1_lengthOf (by omega) (by omega) (by decide) (Nat.zero_le _) (Nat.zero_le _) hK hP rfl hl.1 (Nat.le_of_ble_eq_true rfl) dX1_extraWithout_29 rfl (fun r hq => ?_)
      subst hq
      exact hret _ _ _ dX1_extraWithout_32 (Or.inr ⟨s0, some B, hs0, rfl, hps, ho, rfl⟩)
    · obtain rfl : o = none := by
        cases o with
        | none => rfl
        | some B => exact absurd ((sn_ov_pos hol).mpr ⟨B, rfl⟩) c20
      refine lv_iconst (v := -1) hx hb dX1_extraWithout_23 (by decide) ?_
      refine lv_goto (tgt := 32) hx hb dX1_extraWithout_24 (by decide) ?_
      exact hret _ _ _ dX1_extraWithout_32 (Or.inr ⟨s0, none, hs0, rfl, hps, ho, rfl⟩)
  · refine lv_iconst (v := -1) hx hb dX1_extraWithout_8 (by decide) ?_
    exact hret _ _ _ dX1_extraWithout_9 (Or.inl ⟨c5, rfl⟩)
theorem hdX1_extraWithout : yX1_extraWithout.cls = RX1 ∧ yX1_extraWithout.cls ≠ "java/lang/invoke/MethodHandle" ∧ yX1_extraWithout.cls ≠ "java/lang/invoke/VarHandle" ∧ (parseMethodDescriptor yX1_extraWithout.desc).map (fun d => d.parameters.length) = some 1 := by decide +kernel
set_option maxHeartbeats 4000000 in
set_option maxRecDepth 100000 in
theorem cM_walkLength (l : Launch) (D : va_G) (g : Nat → Nat) (k : Nat → ClassId) (p : Nat) (a b ln lf nr : Nat → Nat)  (hp : p < 1024) (hr : sw_rng a b ln) : Met l yX1_walkLength (ws_ yX1_walkLength cX1_walkLength 3 (some .int)) (sw_rm 4) (va_Pc [.ref (g 0)] (fun U => sw_MP D g k p a b ln lf nr U.heap ∧ sw_MK D k U)) (vp_Si (fun r => ∃ B, sw_fi a b ln p 0 0 1024 (some B) ∧ ((¬ sw_con a b p ∧ r = -1) ∨ (sw_con a b p ∧ r = nI (sw_ln ln p 10 + sw_ln ln B 10))))) 0 0 (fun _ => False) := by
  refine so_i (own := RX1) (by decide) rfl (Nat.le_of_ble_eq_true rfl) (fun P e R s m args bl mt c Q ls S hR hL hB hl hret => ?_)
  obtain ⟨hP, hK⟩ := hB
  obtain ⟨hx, hb, hml, hown, hts⟩ := id S
  have hl : lv_has ls 3 [(0, .ref (g 0))] := hl
  refine lv_aload_n hx hb dX1_walkLength_0 rfl (lv_at hl 0 rfl) ?_
  refine mc_ro (As := []) (n := 0) S (cM_bestSet l D g k p a b ln lf nr hp hr) (lw_V q266 q247 q248 q22 q249) hdX1_bestSet (by omega) (by omega) (by decide) (Nat.zero_le _) (Nat.zero_le _) hK hP rfl hl.1 (Nat.le_of_ble_eq_true rfl) dX1_walkLength_1 rfl (fun r hq => ?_)
  obtain ⟨B, ho, rfl⟩ := hq
  have hB := sw_fi_lt ho B rfl
  refine lv_istore_n (lv' := [(1, .int (nI (B))), (0, .ref (g 0))]) hx hb dX1_walkLength_4 rfl hl (by decide) rfl (fun ls hl => ?_)
  refine lv_aload_n hx hb dX1_walkLength_5 rfl (lv_at hl 1 rfl) ?_
  refine mc_ro (As := []) (n := 0) S (cM_streets l D g k p a b ln lf nr hp) (lw_V q211 q204 q205 q22 q206) hdX1_streets (by omega) (by omega) (by decide) (Nat.zero_le _) (Nat.zero_le _) hK hP rfl hl.1 (Nat.le_of_ble_eq_true rfl) dX1_walkLength_6 rfl (fun r hq => ?_)
  subst hq
  refine lv_istore_n (lv' := [(2, .int (nI (p))), (1, .int (nI (B))), (0, .ref (g 0))]) hx hb dX1_walkLength_9 rfl hl (by decide) rfl (fun ls hl => ?_)
  refine lv_iload_n hx hb dX1_walkLength_10 rfl (lv_at hl 1 rfl) ?_
  refine lv_if_lt (tgt := 21) hx hb dX1_walkLength_11 (by decide) (fun c11 => absurd c11 (nI_pos (by omega))) (fun c11 => ?_)
  refine lv_aload_n hx hb dX1_walkLength_14 rfl (lv_at hl 2 rfl) ?_
  refine mc_ro (As := []) (n := 0) S (cM_connected l D g k p a b ln lf nr hp hr) (lw_V q267 q217 q218 q22 q219) hdX1_connected (by omega) (by omega) (by decide) (Nat.zero_le _) (Nat.zero_le _) hK hP rfl hl.1 (Nat.le_of_ble_eq_true rfl) dX1_walkLength_15 rfl (fun r hq => ?_)
  obtain ⟨bb, rfl, hbb⟩ := hq
  refine sr_bt (tgt := 25) hx hb dX1_walkLength_18 (by decide) (fun c18 => ?_) (fun c18 => ?_)
  · refine lv_aload_n hx hb dX1_walkLength_25 rfl (lv_at hl 2 rfl) ?_
    refine lv_iload_n hx hb dX1_walkLength_26 rfl (lv_at hl 0 rfl) ?_
    refine mc_ro (As := [.int (nI (p))]) (n := 1) S (cM_lengthOf l D g k p a b ln lf nr hp) (lw_V q241 q243 qs17 q22 q244) hdX1_lengthOf (by omega) (by omega) (by decide) (Nat.zero_le _) (Nat.zero_le _) hK hP rfl hl.1 (Nat.le_of_ble_eq_true rfl) dX1_walkLength_27 rfl (fun r hq => ?_)
    subst hq
    refine lv_aload_n hx hb dX1_walkLength_30 rfl (lv_at hl 2 rfl) ?_
    refine lv_iload_n hx hb dX1_walkLength_31 rfl (lv_at hl 1 rfl) ?_
    refine mc_ro (As := [.int (nI (B))]) (n := 1) S (cM_lengthOf l D g k p a b ln lf nr hB) (lw_V q241 q243 qs17 q22 q244) hdX1_lengthOf (by omega) (by omega) (by decide) (Nat.zero_le _) (Nat.zero_le _) hK hP rfl hl.1 (Nat.le_of_ble_eq_true rfl) dX1_walkLength_32 rfl (fun r hq => ?_)
    subst hq
    refine sr_add hx hb dX1_walkLength_35 ?_
    exact hret _ _ _ dX1_walkLength_36 ⟨B, ho, Or.inr ⟨hbb.mp c18, rfl⟩⟩
  · refine lv_iconst (v := -1) hx hb dX1_walkLength_21 (by decide) ?_
    refine lv_goto (tgt := 36) hx hb dX1_walkLength_22 (by decide) ?_
    exact hret _ _ _ dX1_walkLength_36 ⟨B, ho, Or.inl ⟨fun z => by rw [hbb.mpr z] at c18; exact absurd c18 (by decide), rfl⟩⟩
theorem hdX1_walkLength : yX1_walkLength.cls = RX1 ∧ yX1_walkLength.cls ≠ "java/lang/invoke/MethodHandle" ∧ yX1_walkLength.cls ≠ "java/lang/invoke/VarHandle" ∧ (parseMethodDescriptor yX1_walkLength.desc).map (fun d => d.parameters.length) = some 0 := by decide +kernel
end
section
/-! CONTRACTS of StreetWalkerModel: ways, the walk, build, close, setLength -/
theorem sn_nlt {x : Int32} {n : Nat} (h : ¬ x < nI n) : nI n ≤ x := by
  rw [Int32.lt_iff_toInt_lt] at h
  rw [Int32.le_iff_toInt_le]
  omega
theorem sn_nge {x : Int32} {n : Nat} (h : x < nI n) : ¬ nI n ≤ x := by
  rw [Int32.lt_iff_toInt_lt] at h
  rw [Int32.le_iff_toInt_le]
  omega
set_option maxHeartbeats 4000000 in
set_option maxRecDepth 100000 in
theorem cM_way (l : Launch) (D : va_G) (g : Nat → Nat) (k : Nat → ClassId) (p : Nat) (a b ln lf nr : Nat → Nat) (x y : Int32) (hg : sw_XD g) (hp : p < 1024) (hr : sw_rng a b ln) : Met l yX1_way (ws_ yX1_way cX1_way 7 (some .int)) (sw_rm 1) (va_Pc [.ref (g 0), .int (x), .int (y)] (fun U => sw_MP D g k p a b ln lf nr U.heap ∧ sw_MK D k U)) (va_Qi (fun r (u : Nat → Nat) => ((sw_inb x 6 && sw_inb y 6) = false ∧ r = -1) ∨ ∃ i j v, i < 6 ∧ j < 6 ∧ x = nI i ∧ y = nI j ∧ sw_min a b ln p (2 ^ i ^^^ 2 ^ j) v ∧ r = sw_fv v) (fun (u : Nat → Nat) t => (fun (u : Nat → Nat) (H : Heap) => sw_MP D g k p a b ln lf u H) u t.heap) (sw_XA g)) 0 0 (sw_XA g) := by
  refine so_wi (own := RX1) (Bw := fun (u : Nat → Nat) (H : Heap) => sw_MP D g k p a b ln lf u H) (by decide) rfl (Nat.le_of_ble_eq_true rfl) (fun P e R s m args bl mt c Q ls S hR hL hB hl hret => ?_)
  obtain ⟨hP, hK⟩ := hB
  obtain ⟨hx, hb, hml, hown, hts⟩ := id S
  have hl : lv_has ls 7 [(0, .ref (g 0)), (1, .int (x)), (2, .int (y))] := hl
  have hS : va_S (sw_XA g) s.heap s.heap [] := va_S.rf
  obtain ⟨H, hH⟩ : ∃ H, H = s.heap := ⟨_, rfl⟩
  obtain ⟨locs, hlo⟩ : ∃ L : List Loc, L = [] := ⟨_, rfl⟩
  have hP : sw_MP D g k p a b ln lf nr H := by rw [hH]; exact hP
  have hS : va_S (sw_XA g) s.heap H locs := by rw [hH, hlo]; exact hS
  have hgo : W P l e R s m args bl mt c H locs 0 0 Q (F0 m 0 ls []) := by
    refine lv_aload_n hx hb dX1_way_0 rfl (lv_at hl 0 rfl) ?_
    refine lv_iload_n hx hb dX1_way_1 rfl (lv_at hl 1 rfl) ?_
    refine mc_ro (As := [.int (x)]) (n := 1) S (cM_corner l D g k p a b ln lf nr x) (lw_V q187 q189 qs10 q22 q190) hdX1_corner (by omega) (by omega) (by decide) (Nat.zero_le _) (Nat.zero_le _) hK hP rfl hl.1 (Nat.le_of_ble_eq_true rfl) dX1_way_2 rfl (fun r hq => ?_)
    subst hq
    refine sr_bf (tgt := 16) hx hb dX1_way_5 (by decide) (fun c5 => ?_) (fun c5 => ?_)
    · refine lv_iconst (v := -1) hx hb dX1_way_16 (by decide) ?_
      exact hret _ _ _ nr _ _ dX1_way_17 (Or.inl ⟨by rw [c5]; rfl, rfl⟩) hP hS
    · refine lv_aload_n hx hb dX1_way_8 rfl (lv_at hl 0 rfl) ?_
      refine lv_iload_n hx hb dX1_way_9 rfl (lv_at hl 2 rfl) ?_
      refine mc_ro (As := [.int (y)]) (n := 1) S (cM_corner l D g k p a b ln lf nr y) (lw_V q187 q189 qs10 q22 q190) hdX1_corner (by omega) (by omega) (by decide) (Nat.zero_le _) (Nat.zero_le _) hK hP rfl hl.1 (Nat.le_of_ble_eq_true rfl) dX1_way_10 rfl (fun r hq => ?_)
      subst hq
      refine sr_bt (tgt := 18) hx hb dX1_way_13 (by decide) (fun c13 => ?_) (fun c13 => ?_)
      · obtain ⟨i0, hi0, rfl⟩ := sn_in_t (by decide) c5
        obtain ⟨j0, hj0, rfl⟩ := sn_in_t (by decide) c13
        refine lv_iconst (v := nI 0) hx hb dX1_way_18 (by decide) ?_
        refine lv_istore_n (lv' := [(3, .int (nI (0))), (0, .ref (g 0)), (1, .int (nI (i0))), (2, .int (nI (j0)))]) hx hb dX1_way_19 rfl hl (by decide) rfl (fun ls hl => ?_)
        have L20 : ∀ (n i : Nat) (n1 : Nat → Nat), i ≤ 6 → 7 ≤ i + n → (∀ c, c < i → n1 c = if c = i0 then 0 else 100000) → ∀ (H : Heap) (locs : List Loc), sw_MP D g k p a b ln lf n1 H → va_S (sw_XA g) s.heap H locs → ∀ (ls : Array Slot), lv_has ls 7 [(0, .ref (g 0)), (1, .int (nI (i0))), (2, .int (nI (j0))), (3, .int (nI (i)))] → W P l e R s m args bl mt c H locs 0 0 Q (F0 m 20 ls []) := by
          intro n
          induction n with
          | zero => intro i n1 h1 h2; exact absurd h2 (by omega)
          | succ n ih20 =>
            intro i n1 hi20 hn20 h1 H locs hP hS ls hl
            refine lv_iload_n hx hb dX1_way_20 rfl (lv_at hl 3 rfl) ?_
            refine lv_bipush (v := nI 6) hx hb dX1_way_21 (by decide) ?_
            refine sr_ge (tgt := 49) hx hb (by omega) (by omega) dX1_way_23 (by decide) (fun c23 => ?_) (fun c23 => ?_)
            · obtain ⟨d, hd⟩ := sw_nK_0 (a := a) (b := b) (p := p) (fun s hs => (hr s hs).2.2) (fun c hc => h1 c (by omega)) hi0
              refine lv_iconst (v := nI 0) hx hb dX1_way_49 (by decide) ?_
              refine lv_istore_n (lv' := [(3, .int (nI (0))), (0, .ref (g 0)), (1, .int (nI (i0))), (2, .int (nI (j0)))]) hx hb dX1_way_50 rfl hl (by decide) rfl (fun ls hl => ?_)
              have L51 : ∀ (n q : Nat) (n2 : Nat → Nat), q ≤ 6 → 7 ≤ q + n → (sw_nK a b ln d p i0 q n2) → ∀ (H : Heap) (locs : List Loc), sw_MP D g k p a b ln lf n2 H → va_S (sw_XA g) s.heap H locs → ∀ (ls : Array Slot), lv_has ls 7 [(0, .ref (g 0)), (1, .int (nI (i0))), (2, .int (nI (j0))), (3, .int (nI (q)))] → W P l e R s m args bl mt c H locs 0 0 Q (F0 m 51 ls []) := by
                intro n
                induction n with
                | zero => intro q n2 h1 h2; exact absurd h2 (by omega)
                | succ n ih51 =>
                  intro q n2 hi51 hn51 h2 H locs hP hS ls hl
                  refine lv_iload_n hx hb dX1_way_51 rfl (lv_at hl 3 rfl) ?_
                  refine lv_bipush (v := nI 6) hx hb dX1_way_52 (by decide) ?_
                  refine sr_ge (tgt := 225) hx hb (by omega) (by omega) dX1_way_54 (by decide) (fun c54 => ?_) (fun c54 => ?_)
                  · have hend := sw_nK_e (ek_v (P := fun z => sw_nK a b ln d p i0 z n2) (show 6 = q by omega) h2) hj0
                    have k6 := hend.1
                    refine lv_aload_n hx hb dX1_way_225 rfl (lv_at hl 0 rfl) ?_
                    refine mg6 hx hb hts hown hK hP dX1_way_226 ?_
                    refine lv_iload_n hx hb dX1_way_229 rfl (lv_at hl 2 rfl) ?_
                    refine ml6 hx hb hK hP (by omega) dX1_way_230 ?_
                    refine lv_ldc (v := nI 100000) hx hb hown (hts _ q245) dX1_way_231 ?_
                    refine sr_ge (tgt := 245) hx hb (by omega) (by omega) dX1_way_233 (by decide) (fun c233 => ?_) (fun c233 => ?_)
                    · refine lv_iconst (v := -1) hx hb dX1_way_245 (by decide) ?_
                      exact hret _ _ _ n2 _ _ dX1_way_246 (Or.inr ⟨i0, j0, _, hi0, hj0, rfl, rfl, hend.2, (sw_fv_f c233).symm⟩) hP hS
                    · refine lv_aload_n hx hb dX1_way_236 rfl (lv_at hl 0 rfl) ?_
                      refine mg6 hx hb hts hown hK hP dX1_way_237 ?_
                      refine lv_iload_n hx hb dX1_way_240 rfl (lv_at hl 2 rfl) ?_
                      refine ml6 hx hb hK hP (by omega) dX1_way_241 ?_
                      refine lv_goto (tgt := 246) hx hb dX1_way_242 (by decide) ?_
                      exact hret _ _ _ n2 _ _ dX1_way_246 (Or.inr ⟨i0, j0, _, hi0, hj0, rfl, rfl, hend.2, (sw_fv_t c233).symm⟩) hP hS
                  · refine lv_iconst (v := nI 0) hx hb dX1_way_57 (by decide) ?_
                    refine lv_istore (lv' := [(4, .int (nI (0))), (0, .ref (g 0)), (1, .int (nI (i0))), (2, .int (nI (j0))), (3, .int (nI (q)))]) hx hb dX1_way_58 hl (by decide) rfl (fun ls hl => ?_)
                    have L60 : ∀ (n t : Nat) (n3 : Nat → Nat), t ≤ 10 → 11 ≤ t + n → (sw_nP a b ln d p n2 t n3) → ∀ (H : Heap) (locs : List Loc), sw_MP D g k p a b ln lf n3 H → va_S (sw_XA g) s.heap H locs → ∀ (ls : Array Slot), lv_has ls 7 [(0, .ref (g 0)), (1, .int (nI (i0))), (2, .int (nI (j0))), (3, .int (nI (q))), (4, .int (nI (t)))] → W P l e R s m args bl mt c H locs 0 0 Q (F0 m 60 ls []) := by
                      intro n
                      induction n with
                      | zero => intro t n3 h1 h2; exact absurd h2 (by omega)
                      | succ n ih60 =>
                        intro t n3 hi60 hn60 h3 H locs hP hS ls hl
                        refine lv_iload hx hb dX1_way_60 (lv_at hl 4 rfl) ?_
                        refine lv_bipush (v := nI 10) hx hb dX1_way_62 (by decide) ?_
                        refine sr_ge (tgt := 219) hx hb (by omega) (by omega) dX1_way_64 (by decide) (fun c64 => ?_) (fun c64 => ?_)
                        · refine lv_iinc (v := nI (q + 1)) (lv' := [(3, .int (nI (q + 1))), (0, .ref (g 0)), (1, .int (nI (i0))), (2, .int (nI (j0))), (4, .int (nI (t)))]) hx hb dX1_way_219 hl (k := 3) rfl (sn_inc (q)) (by decide) rfl (fun ls hl => ?_)
                          refine lv_goto (tgt := 51) hx hb dX1_way_222 (by decide) ?_
                          exact ih51 (q + 1) (n3) (by omega) (by omega) (sw_nK_s hr hi0 h2 (ek_v (P := fun z => sw_nP a b ln d p n2 z n3) (show 10 = t by omega) h3)) _ _ hP hS ls (lv_sub hl [1, 2, 3, 0] rfl)
                        · refine lv_aload_n hx hb dX1_way_67 rfl (lv_at hl 0 rfl) ?_
                          refine mg1 hx hb hts hown hK hP dX1_way_68 ?_
                          refine lv_iload hx hb dX1_way_71 (lv_at hl 4 rfl) ?_
                          refine ml1 hx hb hK hP (by omega) dX1_way_73 ?_
                          refine sr_bf (tgt := 213) hx hb dX1_way_74 (by decide) (fun c74 => ?_) (fun c74 => ?_)
                          · refine lv_iinc (v := nI (t + 1)) (lv' := [(4, .int (nI (t + 1))), (0, .ref (g 0)), (1, .int (nI (i0))), (2, .int (nI (j0))), (3, .int (nI (q)))]) hx hb dX1_way_213 hl (k := 4) rfl (sn_inc (t)) (by decide) rfl (fun ls hl => ?_)
                            refine lv_goto (tgt := 60) hx hb dX1_way_216 (by decide) ?_
                            exact ih60 (t + 1) (n3) (by omega) (by omega) (sw_nP_n h3 c74) _ _ hP hS ls (lv_sub hl [1, 2, 3, 4, 0] rfl)
                          · have hd0 := h2
                            obtain ⟨ha6, hb6, hl6⟩ := hr t (by omega)
                            have k1 := (h3.1 (a t) ha6).2
                            have k2 := (h3.1 (b t) hb6).2
                            refine lv_aload_n hx hb dX1_way_77 rfl (lv_at hl 0 rfl) ?_
                            refine mg6 hx hb hts hown hK hP dX1_way_78 ?_
                            refine lv_aload_n hx hb dX1_way_81 rfl (lv_at hl 0 rfl) ?_
                            refine mg2 hx hb hts hown hK hP dX1_way_82 ?_
                            refine lv_iload hx hb dX1_way_85 (lv_at hl 4 rfl) ?_
                            refine ml2 hx hb hK hP (by omega) dX1_way_87 ?_
                            refine ml6 hx hb hK hP (by omega) dX1_way_88 ?_
                            refine lv_aload_n hx hb dX1_way_89 rfl (lv_at hl 0 rfl) ?_
                            refine mg4 hx hb hts hown hK hP dX1_way_90 ?_
                            refine lv_iload hx hb dX1_way_93 (lv_at hl 4 rfl) ?_
                            refine ml4 hx hb hK hP (by omega) dX1_way_95 ?_
                            refine sr_add hx hb dX1_way_96 ?_
                            refine lv_istore (lv' := [(5, .int (nI ((n3 (a (t))) + (ln (t))))), (0, .ref (g 0)), (1, .int (nI (i0))), (2, .int (nI (j0))), (3, .int (nI (q))), (4, .int (nI (t)))]) hx hb dX1_way_97 hl (by decide) rfl (fun ls hl => ?_)
                            refine lv_aload_n hx hb dX1_way_99 rfl (lv_at hl 1 rfl) ?_
                            refine mg6 hx hb hts hown hK hP dX1_way_100 ?_
                            refine lv_aload_n hx hb dX1_way_103 rfl (lv_at hl 1 rfl) ?_
                            refine mg3 hx hb hts hown hK hP dX1_way_104 ?_
                            refine lv_iload hx hb dX1_way_107 (lv_at hl 5 rfl) ?_
                            refine ml3 hx hb hK hP (by omega) dX1_way_109 ?_
                            refine ml6 hx hb hK hP (by omega) dX1_way_110 ?_
                            refine lv_aload_n hx hb dX1_way_111 rfl (lv_at hl 1 rfl) ?_
                            refine mg4 hx hb hts hown hK hP dX1_way_112 ?_
                            refine lv_iload hx hb dX1_way_115 (lv_at hl 5 rfl) ?_
                            refine ml4 hx hb hK hP (by omega) dX1_way_117 ?_
                            refine sr_add hx hb dX1_way_118 ?_
                            refine lv_istore (lv' := [(6, .int (nI ((n3 (b (t))) + (ln (t))))), (5, .int (nI ((n3 (a (t))) + (ln (t))))), (0, .ref (g 0)), (1, .int (nI (i0))), (2, .int (nI (j0))), (3, .int (nI (q))), (4, .int (nI (t)))]) hx hb dX1_way_119 hl (by decide) rfl (fun ls hl => ?_)
                            refine lv_aload_n hx hb dX1_way_121 rfl (lv_at hl 2 rfl) ?_
                            refine mg6 hx hb hts hown hK hP dX1_way_122 ?_
                            refine lv_aload_n hx hb dX1_way_125 rfl (lv_at hl 2 rfl) ?_
                            refine mg3 hx hb hts hown hK hP dX1_way_126 ?_
                            refine lv_iload hx hb dX1_way_129 (lv_at hl 6 rfl) ?_
                            refine ml3 hx hb hK hP (by omega) dX1_way_131 ?_
                            refine lv_iload hx hb dX1_way_132 (lv_at hl 1 rfl) ?_
                            refine lv_aload_n hx hb dX1_way_134 rfl (lv_at hl 2 rfl) ?_
                            refine mg6 hx hb hts hown hK hP dX1_way_135 ?_
                            refine lv_aload_n hx hb dX1_way_138 rfl (lv_at hl 2 rfl) ?_
                            refine mg3 hx hb hts hown hK hP dX1_way_139 ?_
                            refine lv_iload hx hb dX1_way_142 (lv_at hl 6 rfl) ?_
                            refine ml3 hx hb hK hP (by omega) dX1_way_144 ?_
                            refine ml6 hx hb hK hP (by omega) dX1_way_145 ?_
                            refine sr_ge (tgt := 154) hx hb (by omega) (by omega) dX1_way_146 (by decide) (fun c146 => ?_) (fun c146 => ?_)
                            · refine lv_aload_n hx hb dX1_way_154 rfl (lv_at hl 2 rfl) ?_
                              refine mg6 hx hb hts hown hK hP dX1_way_155 ?_
                              refine lv_aload_n hx hb dX1_way_158 rfl (lv_at hl 2 rfl) ?_
                              refine mg3 hx hb hts hown hK hP dX1_way_159 ?_
                              refine lv_iload hx hb dX1_way_162 (lv_at hl 6 rfl) ?_
                              refine ml3 hx hb hK hP (by omega) dX1_way_164 ?_
                              refine ml6 hx hb hK hP (by omega) dX1_way_165 ?_
                              refine ms6 hx hb hK hP hg hS (by omega) dX1_way_166 (fun H locs hP hS => ?_)
                              have k5 : (va_up n3 (b (t)) (n3 (b (t)))) (a t) ≤ 200000 := by unfold va_up; split <;> omega
                              refine lv_aload_n hx hb dX1_way_167 rfl (lv_at hl 2 rfl) ?_
                              refine mg6 hx hb hts hown hK hP dX1_way_168 ?_
                              refine lv_aload_n hx hb dX1_way_171 rfl (lv_at hl 2 rfl) ?_
                              refine mg2 hx hb hts hown hK hP dX1_way_172 ?_
                              refine lv_iload hx hb dX1_way_175 (lv_at hl 6 rfl) ?_
                              refine ml2 hx hb hK hP (by omega) dX1_way_177 ?_
                              refine lv_iload hx hb dX1_way_178 (lv_at hl 0 rfl) ?_
                              refine lv_aload_n hx hb dX1_way_180 rfl (lv_at hl 2 rfl) ?_
                              refine mg6 hx hb hts hown hK hP dX1_way_181 ?_
                              refine lv_aload_n hx hb dX1_way_184 rfl (lv_at hl 2 rfl) ?_
                              refine mg2 hx hb hts hown hK hP dX1_way_185 ?_
                              refine lv_iload hx hb dX1_way_188 (lv_at hl 6 rfl) ?_
                              refine ml2 hx hb hK hP (by omega) dX1_way_190 ?_
                              refine ml6 hx hb hK hP (by omega) dX1_way_191 ?_
                              refine sr_ge (tgt := 200) hx hb (by omega) (by omega) dX1_way_192 (by decide) (fun c192 => ?_) (fun c192 => ?_)
                              · refine lv_aload_n hx hb dX1_way_200 rfl (lv_at hl 2 rfl) ?_
                                refine mg6 hx hb hts hown hK hP dX1_way_201 ?_
                                refine lv_aload_n hx hb dX1_way_204 rfl (lv_at hl 2 rfl) ?_
                                refine mg2 hx hb hts hown hK hP dX1_way_205 ?_
                                refine lv_iload hx hb dX1_way_208 (lv_at hl 6 rfl) ?_
                                refine ml2 hx hb hK hP (by omega) dX1_way_210 ?_
                                refine ml6 hx hb hK hP (by omega) dX1_way_211 ?_
                                refine ms6 hx hb hK hP hg hS (by omega) dX1_way_212 (fun H locs hP hS => ?_)
                                refine lv_iinc (v := nI (t + 1)) (lv' := [(4, .int (nI (t + 1))), (6, .int (nI ((n3 (b (t))) + (ln (t))))), (5, .int (nI ((n3 (a (t))) + (ln (t))))), (0, .ref (g 0)), (1, .int (nI (i0))), (2, .int (nI (j0))), (3, .int (nI (q)))]) hx hb dX1_way_213 hl (k := 6) rfl (sn_inc (t)) (by decide) rfl (fun ls hl => ?_)
                                refine lv_goto (tgt := 60) hx hb dX1_way_216 (by decide) ?_
                                exact ih60 (t + 1) (va_up (va_up n3 (b (t)) (n3 (b (t)))) (a (t)) ((va_up n3 (b (t)) (n3 (b (t)))) (a (t)))) (by omega) (by omega) (by have z := sw_nP_s hr hd0.1 h3 (by omega) c74; unfold sw_rx at z; rw [if_neg (Nat.not_lt.mpr c146), if_neg (Nat.not_lt.mpr c192)] at z; exact z) _ _ hP hS ls (lv_sub hl [3, 4, 5, 6, 0] rfl)
                              · refine lv_iload hx hb dX1_way_195 (lv_at hl 0 rfl) ?_
                                refine lv_goto (tgt := 212) hx hb dX1_way_197 (by decide) ?_
                                refine ms6 hx hb hK hP hg hS (by omega) dX1_way_212 (fun H locs hP hS => ?_)
                                refine lv_iinc (v := nI (t + 1)) (lv' := [(4, .int (nI (t + 1))), (6, .int (nI ((n3 (b (t))) + (ln (t))))), (5, .int (nI ((n3 (a (t))) + (ln (t))))), (0, .ref (g 0)), (1, .int (nI (i0))), (2, .int (nI (j0))), (3, .int (nI (q)))]) hx hb dX1_way_213 hl (k := 6) rfl (sn_inc (t)) (by decide) rfl (fun ls hl => ?_)
                                refine lv_goto (tgt := 60) hx hb dX1_way_216 (by decide) ?_
                                exact ih60 (t + 1) (va_up (va_up n3 (b (t)) (n3 (b (t)))) (a (t)) ((n3 (b (t))) + (ln (t)))) (by omega) (by omega) (by have z := sw_nP_s hr hd0.1 h3 (by omega) c74; unfold sw_rx at z; rw [if_neg (Nat.not_lt.mpr c146), if_pos c192] at z; exact z) _ _ hP hS ls (lv_sub hl [3, 4, 5, 6, 0] rfl)
                            · refine lv_iload hx hb dX1_way_149 (lv_at hl 1 rfl) ?_
                              refine lv_goto (tgt := 166) hx hb dX1_way_151 (by decide) ?_
                              refine ms6 hx hb hK hP hg hS (by omega) dX1_way_166 (fun H locs hP hS => ?_)
                              have k5 : (va_up n3 (b (t)) ((n3 (a (t))) + (ln (t)))) (a t) ≤ 200000 := by unfold va_up; split <;> omega
                              refine lv_aload_n hx hb dX1_way_167 rfl (lv_at hl 2 rfl) ?_
                              refine mg6 hx hb hts hown hK hP dX1_way_168 ?_
                              refine lv_aload_n hx hb dX1_way_171 rfl (lv_at hl 2 rfl) ?_
                              refine mg2 hx hb hts hown hK hP dX1_way_172 ?_
                              refine lv_iload hx hb dX1_way_175 (lv_at hl 6 rfl) ?_
                              refine ml2 hx hb hK hP (by omega) dX1_way_177 ?_
                              refine lv_iload hx hb dX1_way_178 (lv_at hl 0 rfl) ?_
                              refine lv_aload_n hx hb dX1_way_180 rfl (lv_at hl 2 rfl) ?_
                              refine mg6 hx hb hts hown hK hP dX1_way_181 ?_
                              refine lv_aload_n hx hb dX1_way_184 rfl (lv_at hl 2 rfl) ?_
                              refine mg2 hx hb hts hown hK hP dX1_way_185 ?_
                              refine lv_iload hx hb dX1_way_188 (lv_at hl 6 rfl) ?_
                              refine ml2 hx hb hK hP (by omega) dX1_way_190 ?_
                              refine ml6 hx hb hK hP (by omega) dX1_way_191 ?_
                              refine sr_ge (tgt := 200) hx hb (by omega) (by omega) dX1_way_192 (by decide) (fun c192 => ?_) (fun c192 => ?_)
                              · refine lv_aload_n hx hb dX1_way_200 rfl (lv_at hl 2 rfl) ?_
                                refine mg6 hx hb hts hown hK hP dX1_way_201 ?_
                                refine lv_aload_n hx hb dX1_way_204 rfl (lv_at hl 2 rfl) ?_
                                refine mg2 hx hb hts hown hK hP dX1_way_205 ?_
                                refine lv_iload hx hb dX1_way_208 (lv_at hl 6 rfl) ?_
                                refine ml2 hx hb hK hP (by omega) dX1_way_210 ?_
                                refine ml6 hx hb hK hP (by omega) dX1_way_211 ?_
                                refine ms6 hx hb hK hP hg hS (by omega) dX1_way_212 (fun H locs hP hS => ?_)
                                refine lv_iinc (v := nI (t + 1)) (lv' := [(4, .int (nI (t + 1))), (6, .int (nI ((n3 (b (t))) + (ln (t))))), (5, .int (nI ((n3 (a (t))) + (ln (t))))), (0, .ref (g 0)), (1, .int (nI (i0))), (2, .int (nI (j0))), (3, .int (nI (q)))]) hx hb dX1_way_213 hl (k := 6) rfl (sn_inc (t)) (by decide) rfl (fun ls hl => ?_)
                                refine lv_goto (tgt := 60) hx hb dX1_way_216 (by decide) ?_
                                exact ih60 (t + 1) (va_up (va_up n3 (b (t)) ((n3 (a (t))) + (ln (t)))) (a (t)) ((va_up n3 (b (t)) ((n3 (a (t))) + (ln (t)))) (a (t)))) (by omega) (by omega) (by have z := sw_nP_s hr hd0.1 h3 (by omega) c74; unfold sw_rx at z; rw [if_pos c146, if_neg (Nat.not_lt.mpr c192)] at z; exact z) _ _ hP hS ls (lv_sub hl [3, 4, 5, 6, 0] rfl)
                              · refine lv_iload hx hb dX1_way_195 (lv_at hl 0 rfl) ?_
                                refine lv_goto (tgt := 212) hx hb dX1_way_197 (by decide) ?_
                                refine ms6 hx hb hK hP hg hS (by omega) dX1_way_212 (fun H locs hP hS => ?_)
                                refine lv_iinc (v := nI (t + 1)) (lv' := [(4, .int (nI (t + 1))), (6, .int (nI ((n3 (b (t))) + (ln (t))))), (5, .int (nI ((n3 (a (t))) + (ln (t))))), (0, .ref (g 0)), (1, .int (nI (i0))), (2, .int (nI (j0))), (3, .int (nI (q)))]) hx hb dX1_way_213 hl (k := 6) rfl (sn_inc (t)) (by decide) rfl (fun ls hl => ?_)
                                refine lv_goto (tgt := 60) hx hb dX1_way_216 (by decide) ?_
                                exact ih60 (t + 1) (va_up (va_up n3 (b (t)) ((n3 (a (t))) + (ln (t)))) (a (t)) ((n3 (b (t))) + (ln (t)))) (by omega) (by omega) (by have z := sw_nP_s hr hd0.1 h3 (by omega) c74; unfold sw_rx at z; rw [if_pos c146, if_pos c192] at z; exact z) _ _ hP hS ls (lv_sub hl [3, 4, 5, 6, 0] rfl)
                    exact L60 (11) (0) (n2) (by omega) (by omega) (sw_nP_0 h2.2.2.1) _ _ hP hS ls (lv_sub hl [1, 2, 3, 4, 0] rfl)
              exact L51 (7) (0) (n1) (by omega) (by omega) hd _ _ hP hS ls (lv_sub hl [1, 2, 3, 0] rfl)
            · refine lv_aload_n hx hb dX1_way_26 rfl (lv_at hl 0 rfl) ?_
              refine mg6 hx hb hts hown hK hP dX1_way_27 ?_
              refine lv_iload_n hx hb dX1_way_30 rfl (lv_at hl 3 rfl) ?_
              refine lv_iload_n hx hb dX1_way_31 rfl (lv_at hl 3 rfl) ?_
              refine lv_iload_n hx hb dX1_way_32 rfl (lv_at hl 1 rfl) ?_
              refine sr_ne (tgt := 40) hx hb (by omega) (by omega) dX1_way_33 (by decide) (fun c33 => ?_) (fun c33 => ?_)
              · refine lv_ldc (v := nI 100000) hx hb hown (hts _ q245) dX1_way_40 ?_
                refine ms6 hx hb hK hP hg hS (by omega) dX1_way_42 (fun H locs hP hS => ?_)
                refine lv_iinc (v := nI (i + 1)) (lv' := [(3, .int (nI (i + 1))), (0, .ref (g 0)), (1, .int (nI (i0))), (2, .int (nI (j0)))]) hx hb dX1_way_43 hl (k := 3) rfl (sn_inc (i)) (by decide) rfl (fun ls hl => ?_)
                refine lv_goto (tgt := 20) hx hb dX1_way_46 (by decide) ?_
                exact ih20 (i + 1) (va_up n1 (i) (100000)) (by omega) (by omega) (lt_s (fun t ht => by rw [va_up_ne _ _ (Nat.ne_of_lt ht)]; exact h1 t ht) (by rw [sn_up_at, if_neg c33])) _ _ hP hS ls (lv_sub hl [1, 2, 3, 0] rfl)
              · refine lv_iconst (v := nI 0) hx hb dX1_way_36 (by decide) ?_
                refine lv_goto (tgt := 42) hx hb dX1_way_37 (by decide) ?_
                refine ms6 hx hb hK hP hg hS (by omega) dX1_way_42 (fun H locs hP hS => ?_)
                refine lv_iinc (v := nI (i + 1)) (lv' := [(3, .int (nI (i + 1))), (0, .ref (g 0)), (1, .int (nI (i0))), (2, .int (nI (j0)))]) hx hb dX1_way_43 hl (k := 3) rfl (sn_inc (i)) (by decide) rfl (fun ls hl => ?_)
                refine lv_goto (tgt := 20) hx hb dX1_way_46 (by decide) ?_
                exact ih20 (i + 1) (va_up n1 (i) (0)) (by omega) (by omega) (lt_s (fun t ht => by rw [va_up_ne _ _ (Nat.ne_of_lt ht)]; exact h1 t ht) (by rw [sn_up_at, if_pos c33])) _ _ hP hS ls (lv_sub hl [1, 2, 3, 0] rfl)
        exact L20 (7) (0) (nr) (by omega) (by omega) (fun t z => absurd z (Nat.not_lt_zero t)) _ _ hP hS ls (lv_sub hl [1, 2, 3, 0] rfl)
      · refine lv_iconst (v := -1) hx hb dX1_way_16 (by decide) ?_
        exact hret _ _ _ nr _ _ dX1_way_17 (Or.inl ⟨by rw [c5, c13]; rfl, rfl⟩) hP hS
  rw [hH, hlo] at hgo
  exact hgo
theorem hdX1_way : yX1_way.cls = RX1 ∧ yX1_way.cls ≠ "java/lang/invoke/MethodHandle" ∧ yX1_way.cls ≠ "java/lang/invoke/VarHandle" ∧ (parseMethodDescriptor yX1_way.desc).map (fun d => d.parameters.length) = some 2 := by decide +kernel
/-- what is left behind the next street -/
def sw_lv (f : Nat → Nat) (o : Option Nat) : Nat → Nat := match o with
  | none => f
  | some s => va_up f s (f s - 1)
set_option maxHeartbeats 4000000 in
set_option maxRecDepth 100000 in
theorem cM_nextStreet (l : Launch) (D : va_G) (g : Nat → Nat) (k : Nat → ClassId) (p : Nat) (a b ln lf nr : Nat → Nat) {A : Nat} (hg : sw_XD g) (hr : sw_rng a b ln) (hA : A < 6) (hlf : ∀ s, s < 10 → lf s ≤ 2) : Met l yX1_nextStreet (ws_ yX1_nextStreet cX1_nextStreet 5 (some .int)) (sw_rm 2) (va_Pc [.ref (g 0), .int (nI (A))] (fun U => sw_MP D g k p a b ln lf nr U.heap ∧ sw_MK D k U)) (va_Qi (fun r (u : Nat → Nat) => r = sw_ov (sw_nxt a b lf A) ∧ u = sw_lv lf (sw_nxt a b lf A)) (fun (u : Nat → Nat) t => (fun (u : Nat → Nat) (H : Heap) => sw_MP D g k p a b ln u nr H) u t.heap) (sw_XA g)) 0 0 (sw_XA g) := by
  refine so_wi (own := RX1) (Bw := fun (u : Nat → Nat) (H : Heap) => sw_MP D g k p a b ln u nr H) (by decide) rfl (Nat.le_of_ble_eq_true rfl) (fun P e R s m args bl mt c Q ls S hR hL hB hl hret => ?_)
  obtain ⟨hP, hK⟩ := hB
  obtain ⟨hx, hb, hml, hown, hts⟩ := id S
  have hl : lv_has ls 5 [(0, .ref (g 0)), (1, .int (nI (A)))] := hl
  have hS : va_S (sw_XA g) s.heap s.heap [] := va_S.rf
  obtain ⟨H, hH⟩ : ∃ H, H = s.heap := ⟨_, rfl⟩
  obtain ⟨locs, hlo⟩ : ∃ L : List Loc, L = [] := ⟨_, rfl⟩
  have hP : sw_MP D g k p a b ln lf nr H := by rw [hH]; exact hP
  have hS : va_S (sw_XA g) s.heap H locs := by rw [hH, hlo]; exact hS
  have hgo : W P l e R s m args bl mt c H locs 0 0 Q (F0 m 0 ls []) := by
    refine lv_iconst (v := nI 0) hx hb dX1_nextStreet_0 (by decide) ?_
    refine lv_istore_n (lv' := [(2, .int (nI (0))), (0, .ref (g 0)), (1, .int (nI (A)))]) hx hb dX1_nextStreet_1 rfl hl (by decide) rfl (fun ls hl => ?_)
    have L2 : ∀ (n i : Nat), i ≤ 10 → 11 ≤ i + n → (sw_nx (sw_gd a b lf A) (10 - i) i = sw_nxt a b lf A) → ∀ (H : Heap) (locs : List Loc), sw_MP D g k p a b ln lf nr H → va_S (sw_XA g) s.heap H locs → ∀ (ls : Array Slot), lv_has ls 5 [(0, .ref (g 0)), (1, .int (nI (A))), (2, .int (nI (i)))] → W P l e R s m args bl mt c H locs 0 0 Q (F0 m 2 ls []) := by
      intro n
      induction n with
      | zero => intro i h1 h2; exact absurd h2 (by omega)
      | succ n ih2 =>
        intro i hi2 hn2 hn H locs hP hS ls hl
        refine lv_iload_n hx hb dX1_nextStreet_2 rfl (lv_at hl 2 rfl) ?_
        refine lv_bipush (v := nI 10) hx hb dX1_nextStreet_3 (by decide) ?_
        refine sr_ge (tgt := 107) hx hb (by omega) (by omega) dX1_nextStreet_5 (by decide) (fun c5 => ?_) (fun c5 => ?_)
        · refine lv_iconst (v := -1) hx hb dX1_nextStreet_107 (by decide) ?_
          exact hret _ _ _ lf _ _ dX1_nextStreet_108 (by rw [← hn, show i = 10 by omega]; exact ⟨rfl, rfl⟩) hP hS
        · obtain ⟨ha6, hb6, -⟩ := hr i (by omega)
          have hfi := hlf i (by omega)
          refine lv_aload_n hx hb dX1_nextStreet_8 rfl (lv_at hl 0 rfl) ?_
          refine mg5 hx hb hts hown hK hP dX1_nextStreet_9 ?_
          refine lv_iload_n hx hb dX1_nextStreet_12 rfl (lv_at hl 2 rfl) ?_
          refine ml5 hx hb hK hP (by omega) dX1_nextStreet_13 ?_
          refine sr_le0 (tgt := 101) hx hb (by omega) dX1_nextStreet_14 (by decide) (fun c14 => ?_) (fun c14 => ?_)
          · refine lv_iinc (v := nI (i + 1)) (lv' := [(2, .int (nI (i + 1))), (0, .ref (g 0)), (1, .int (nI (A)))]) hx hb dX1_nextStreet_101 hl (k := 2) rfl (sn_inc (i)) (by decide) rfl (fun ls hl => ?_)
            refine lv_goto (tgt := 2) hx hb dX1_nextStreet_104 (by decide) ?_
            exact ih2 (i + 1) (by omega) (by omega) (by rw [← sw_nx_n (by omega) (sw_gd_0 c14)]; exact hn) _ _ hP hS ls (lv_sub hl [1, 2, 0] rfl)
          · refine lv_aload_n hx hb dX1_nextStreet_17 rfl (lv_at hl 0 rfl) ?_
            refine mg2 hx hb hts hown hK hP dX1_nextStreet_18 ?_
            refine lv_iload_n hx hb dX1_nextStreet_21 rfl (lv_at hl 2 rfl) ?_
            refine ml2 hx hb hK hP (by omega) dX1_nextStreet_22 ?_
            refine lv_iload_n hx hb dX1_nextStreet_23 rfl (lv_at hl 1 rfl) ?_
            refine sr_eq (tgt := 37) hx hb (by omega) (by omega) dX1_nextStreet_24 (by decide) (fun c24 => ?_) (fun c24 => ?_)
            · have hat : a i = A ∨ b i = A := Or.inl c24
              have hlf1 : ∀ s, s < 10 → (va_up lf i (lf i - 1)) s ≤ 2 := fun s hs => by
                have := hlf s hs
                unfold va_up
                split <;> omega
              refine lv_aload_n hx hb dX1_nextStreet_37 rfl (lv_at hl 0 rfl) ?_
              refine mg5 hx hb hts hown hK hP dX1_nextStreet_38 ?_
              refine lv_iload_n hx hb dX1_nextStreet_41 rfl (lv_at hl 2 rfl) ?_
              refine lv_dup2_11 hx hb dX1_nextStreet_42 rfl rfl ?_
              refine ml5 hx hb hK hP (by omega) dX1_nextStreet_43 ?_
              refine lv_iconst (v := nI 1) hx hb dX1_nextStreet_44 (by decide) ?_
              refine sr_sub hx hb (by omega) dX1_nextStreet_45 ?_
              refine ms5 hx hb hK hP hg hS (by omega) dX1_nextStreet_46 (fun H locs hP hS => ?_)
              refine lv_aload_n hx hb dX1_nextStreet_47 rfl (lv_at hl 0 rfl) ?_
              refine mg2 hx hb hts hown hK hP dX1_nextStreet_48 ?_
              refine lv_iload_n hx hb dX1_nextStreet_51 rfl (lv_at hl 2 rfl) ?_
              refine ml2 hx hb hK hP (by omega) dX1_nextStreet_52 ?_
              refine lv_iload_n hx hb dX1_nextStreet_53 rfl (lv_at hl 1 rfl) ?_
              refine sr_ne (tgt := 66) hx hb (by omega) (by omega) dX1_nextStreet_54 (by decide) (fun c54 => by exact absurd c24 c54) (fun c54 => ?_)
              refine lv_aload_n hx hb dX1_nextStreet_57 rfl (lv_at hl 0 rfl) ?_
              refine mg3 hx hb hts hown hK hP dX1_nextStreet_58 ?_
              refine lv_iload_n hx hb dX1_nextStreet_61 rfl (lv_at hl 2 rfl) ?_
              refine ml3 hx hb hK hP (by omega) dX1_nextStreet_62 ?_
              refine lv_goto (tgt := 72) hx hb dX1_nextStreet_63 (by decide) ?_
              refine lv_istore_n (lv' := [(3, .int (nI (b (i)))), (0, .ref (g 0)), (1, .int (nI (A))), (2, .int (nI (i)))]) hx hb dX1_nextStreet_72 rfl hl (by decide) rfl (fun ls hl => ?_)
              refine lv_aload_n hx hb dX1_nextStreet_73 rfl (lv_at hl 1 rfl) ?_
              refine mc_ro (As := []) (n := 0) S (cM_rest l D g k p a b ln (va_up lf (i) ((lf (i)) - (1))) nr hlf1) (lw_V q277 q279 qs19 q22 q280) hdX1_rest (by omega) (by omega) (by decide) (Nat.zero_le _) (Nat.zero_le _) hK hP rfl hl.1 (Nat.le_of_ble_eq_true rfl) dX1_nextStreet_74 rfl (fun r hq => ?_)
              subst hq
              refine lv_istore (lv' := [(4, .int (nI (sw_rs (va_up lf i (lf i - 1)) 10))), (3, .int (nI (b (i)))), (0, .ref (g 0)), (1, .int (nI (A))), (2, .int (nI (i)))]) hx hb dX1_nextStreet_77 hl (by decide) rfl (fun ls hl => ?_)
              refine lv_aload_n hx hb dX1_nextStreet_79 rfl (lv_at hl 2 rfl) ?_
              refine lv_iload_n hx hb dX1_nextStreet_80 rfl (lv_at hl 1 rfl) ?_
              refine lv_iload hx hb dX1_nextStreet_81 (lv_at hl 0 rfl) ?_
              refine mc_ro (As := [.int (nI (b (i))), .int (nI (sw_rs (va_up lf i (lf i - 1)) 10))]) (n := 2) S (cM_allFrom l D g k p a b ln (va_up lf (i) ((lf (i)) - (1))) nr hr hb6 (sw_rs_lt _ 10)) (lw_V q220 q222 qs13 q22 q223) hdX1_allFrom (by omega) (by omega) (by decide) (Nat.zero_le _) (Nat.zero_le _) hK hP rfl hl.1 (Nat.le_of_ble_eq_true rfl) dX1_nextStreet_83 rfl (fun r hq => ?_)
              subst hq
              refine sr_bf (tgt := 91) hx hb dX1_nextStreet_86 (by decide) (fun c86 => ?_) (fun c86 => ?_)
              · refine lv_aload_n hx hb dX1_nextStreet_91 rfl (lv_at hl 2 rfl) ?_
                refine mg5 hx hb hts hown hK hP dX1_nextStreet_92 ?_
                refine lv_iload_n hx hb dX1_nextStreet_95 rfl (lv_at hl 4 rfl) ?_
                refine lv_dup2_11 hx hb dX1_nextStreet_96 rfl rfl ?_
                refine ml5 hx hb hK hP (by omega) dX1_nextStreet_97 ?_
                refine lv_iconst (v := nI 1) hx hb dX1_nextStreet_98 (by decide) ?_
                refine sr_add hx hb dX1_nextStreet_99 ?_
                refine ms5 hx hb hK hP hg hS (by omega) dX1_nextStreet_100 (fun H locs hP hS => ?_)
                rw [sn_up_at, sn_up_back lf i c14] at hP
                refine lv_iinc (v := nI (i + 1)) (lv' := [(2, .int (nI (i + 1))), (4, .int (nI (sw_rs (va_up lf i (lf i - 1)) 10))), (3, .int (nI (b (i)))), (0, .ref (g 0)), (1, .int (nI (A)))]) hx hb dX1_nextStreet_101 hl (k := 4) rfl (sn_inc (i)) (by decide) rfl (fun ls hl => ?_)
                refine lv_goto (tgt := 2) hx hb dX1_nextStreet_104 (by decide) ?_
                exact ih2 (i + 1) (by omega) (by omega) (by rw [← sw_nx_n (by omega) (by rw [sw_gd_al c14 (Or.inl c24), show a i + b i - A = b i by omega]; exact c86)]; exact hn) _ _ hP hS ls (lv_sub hl [3, 4, 0] rfl)
              · refine lv_iload_n hx hb dX1_nextStreet_89 rfl (lv_at hl 4 rfl) ?_
                exact hret _ _ _ (va_up lf (i) ((lf (i)) - (1))) _ _ dX1_nextStreet_90 (by rw [← hn, sw_nx_s (by omega) (by rw [sw_gd_al c14 (Or.inl c24), show a i + b i - A = b i by omega]; exact c86)]; exact ⟨rfl, rfl⟩) hP hS
            · refine lv_aload_n hx hb dX1_nextStreet_27 rfl (lv_at hl 0 rfl) ?_
              refine mg3 hx hb hts hown hK hP dX1_nextStreet_28 ?_
              refine lv_iload_n hx hb dX1_nextStreet_31 rfl (lv_at hl 2 rfl) ?_
              refine ml3 hx hb hK hP (by omega) dX1_nextStreet_32 ?_
              refine lv_iload_n hx hb dX1_nextStreet_33 rfl (lv_at hl 1 rfl) ?_
              refine sr_ne (tgt := 101) hx hb (by omega) (by omega) dX1_nextStreet_34 (by decide) (fun c34 => ?_) (fun c34 => ?_)
              · refine lv_iinc (v := nI (i + 1)) (lv' := [(2, .int (nI (i + 1))), (0, .ref (g 0)), (1, .int (nI (A)))]) hx hb dX1_nextStreet_101 hl (k := 2) rfl (sn_inc (i)) (by decide) rfl (fun ls hl => ?_)
                refine lv_goto (tgt := 2) hx hb dX1_nextStreet_104 (by decide) ?_
                exact ih2 (i + 1) (by omega) (by omega) (by rw [← sw_nx_n (by omega) (sw_gd_n c24 c34)]; exact hn) _ _ hP hS ls (lv_sub hl [1, 2, 0] rfl)
              · have hat : a i = A ∨ b i = A := Or.inr c34
                have hlf1 : ∀ s, s < 10 → (va_up lf i (lf i - 1)) s ≤ 2 := fun s hs => by
                  have := hlf s hs
                  unfold va_up
                  split <;> omega
                refine lv_aload_n hx hb dX1_nextStreet_37 rfl (lv_at hl 0 rfl) ?_
                refine mg5 hx hb hts hown hK hP dX1_nextStreet_38 ?_
                refine lv_iload_n hx hb dX1_nextStreet_41 rfl (lv_at hl 2 rfl) ?_
                refine lv_dup2_11 hx hb dX1_nextStreet_42 rfl rfl ?_
                refine ml5 hx hb hK hP (by omega) dX1_nextStreet_43 ?_
                refine lv_iconst (v := nI 1) hx hb dX1_nextStreet_44 (by decide) ?_
                refine sr_sub hx hb (by omega) dX1_nextStreet_45 ?_
                refine ms5 hx hb hK hP hg hS (by omega) dX1_nextStreet_46 (fun H locs hP hS => ?_)
                refine lv_aload_n hx hb dX1_nextStreet_47 rfl (lv_at hl 0 rfl) ?_
                refine mg2 hx hb hts hown hK hP dX1_nextStreet_48 ?_
                refine lv_iload_n hx hb dX1_nextStreet_51 rfl (lv_at hl 2 rfl) ?_
                refine ml2 hx hb hK hP (by omega) dX1_nextStreet_52 ?_
                refine lv_iload_n hx hb dX1_nextStreet_53 rfl (lv_at hl 1 rfl) ?_
                refine sr_ne (tgt := 66) hx hb (by omega) (by omega) dX1_nextStreet_54 (by decide) (fun c54 => ?_) (fun c54 => by exact absurd c54 c24)
                refine lv_aload_n hx hb dX1_nextStreet_66 rfl (lv_at hl 0 rfl) ?_
                refine mg2 hx hb hts hown hK hP dX1_nextStreet_67 ?_
                refine lv_iload_n hx hb dX1_nextStreet_70 rfl (lv_at hl 2 rfl) ?_
                refine ml2 hx hb hK hP (by omega) dX1_nextStreet_71 ?_
                refine lv_istore_n (lv' := [(3, .int (nI (a (i)))), (0, .ref (g 0)), (1, .int (nI (A))), (2, .int (nI (i)))]) hx hb dX1_nextStreet_72 rfl hl (by decide) rfl (fun ls hl => ?_)
                refine lv_aload_n hx hb dX1_nextStreet_73 rfl (lv_at hl 1 rfl) ?_
                refine mc_ro (As := []) (n := 0) S (cM_rest l D g k p a b ln (va_up lf (i) ((lf (i)) - (1))) nr hlf1) (lw_V q277 q279 qs19 q22 q280) hdX1_rest (by omega) (by omega) (by decide) (Nat.zero_le _) (Nat.zero_le _) hK hP rfl hl.1 (Nat.le_of_ble_eq_true rfl) dX1_nextStreet_74 rfl (fun r hq => ?_)
                subst hq
                refine lv_istore (lv' := [(4, .int (nI (sw_rs (va_up lf i (lf i - 1)) 10))), (3, .int (nI (a (i)))), (0, .ref (g 0)), (1, .int (nI (A))), (2, .int (nI (i)))]) hx hb dX1_nextStreet_77 hl (by decide) rfl (fun ls hl => ?_)
                refine lv_aload_n hx hb dX1_nextStreet_79 rfl (lv_at hl 2 rfl) ?_
                refine lv_iload_n hx hb dX1_nextStreet_80 rfl (lv_at hl 1 rfl) ?_
                refine lv_iload hx hb dX1_nextStreet_81 (lv_at hl 0 rfl) ?_
                refine mc_ro (As := [.int (nI (a (i))), .int (nI (sw_rs (va_up lf i (lf i - 1)) 10))]) (n := 2) S (cM_allFrom l D g k p a b ln (va_up lf (i) ((lf (i)) - (1))) nr hr ha6 (sw_rs_lt _ 10)) (lw_V q220 q222 qs13 q22 q223) hdX1_allFrom (by omega) (by omega) (by decide) (Nat.zero_le _) (Nat.zero_le _) hK hP rfl hl.1 (Nat.le_of_ble_eq_true rfl) dX1_nextStreet_83 rfl (fun r hq => ?_)
                subst hq
                refine sr_bf (tgt := 91) hx hb dX1_nextStreet_86 (by decide) (fun c86 => ?_) (fun c86 => ?_)
                · refine lv_aload_n hx hb dX1_nextStreet_91 rfl (lv_at hl 2 rfl) ?_
                  refine mg5 hx hb hts hown hK hP dX1_nextStreet_92 ?_
                  refine lv_iload_n hx hb dX1_nextStreet_95 rfl (lv_at hl 4 rfl) ?_
                  refine lv_dup2_11 hx hb dX1_nextStreet_96 rfl rfl ?_
                  refine ml5 hx hb hK hP (by omega) dX1_nextStreet_97 ?_
                  refine lv_iconst (v := nI 1) hx hb dX1_nextStreet_98 (by decide) ?_
                  refine sr_add hx hb dX1_nextStreet_99 ?_
                  refine ms5 hx hb hK hP hg hS (by omega) dX1_nextStreet_100 (fun H locs hP hS => ?_)
                  rw [sn_up_at, sn_up_back lf i c14] at hP
                  refine lv_iinc (v := nI (i + 1)) (lv' := [(2, .int (nI (i + 1))), (4, .int (nI (sw_rs (va_up lf i (lf i - 1)) 10))), (3, .int (nI (a (i)))), (0, .ref (g 0)), (1, .int (nI (A)))]) hx hb dX1_nextStreet_101 hl (k := 4) rfl (sn_inc (i)) (by decide) rfl (fun ls hl => ?_)
                  refine lv_goto (tgt := 2) hx hb dX1_nextStreet_104 (by decide) ?_
                  exact ih2 (i + 1) (by omega) (by omega) (by rw [← sw_nx_n (by omega) (by rw [sw_gd_al c14 (Or.inr c34), show a i + b i - A = a i by omega]; exact c86)]; exact hn) _ _ hP hS ls (lv_sub hl [3, 4, 0] rfl)
                · refine lv_iload_n hx hb dX1_nextStreet_89 rfl (lv_at hl 4 rfl) ?_
                  exact hret _ _ _ (va_up lf (i) ((lf (i)) - (1))) _ _ dX1_nextStreet_90 (by rw [← hn, sw_nx_s (by omega) (by rw [sw_gd_al c14 (Or.inr c34), show a i + b i - A = a i by omega]; exact c86)]; exact ⟨rfl, rfl⟩) hP hS
    exact L2 (11) (0) (by omega) (by omega) rfl _ _ hP hS ls (lv_sub hl [1, 2, 0] rfl)
  rw [hH, hlo] at hgo
  exact hgo
theorem hdX1_nextStreet : yX1_nextStreet.cls = RX1 ∧ yX1_nextStreet.cls ≠ "java/lang/invoke/MethodHandle" ∧ yX1_nextStreet.cls ≠ "java/lang/invoke/VarHandle" ∧ (parseMethodDescriptor yX1_nextStreet.desc).map (fun d => d.parameters.length) = some 1 := by decide +kernel
set_option maxHeartbeats 4000000 in
set_option maxRecDepth 100000 in
theorem cM_walkAt (l : Launch) (D : va_G) (g : Nat → Nat) (k : Nat → ClassId) (p : Nat) (a b ln lf nr : Nat → Nat) (x y : Int32) (hg : sw_XD g) (hp : p < 1024) (hr : sw_rng a b ln) : Met l yX1_walkAt (ws_ yX1_walkAt cX1_walkAt 8 (some .int)) (sw_rm 5) (va_Pc [.ref (g 0), .int (x), .int (y)] (fun U => sw_MP D g k p a b ln lf nr U.heap ∧ sw_MK D k U)) (va_Qi (fun r (u : Nat → Nat) => (¬ (sw_inb x 6 = true ∧ sw_inb y 20 = true ∧ sw_con a b p) ∧ r = -1) ∨ ∃ c0 k0 B, c0 < 6 ∧ k0 < 20 ∧ x = nI c0 ∧ y = nI k0 ∧ sw_con a b p ∧ sw_fi a b ln p 0 0 1024 (some B) ∧ r = sw_ov (sw_wk a b k0 (sw_f0 p B) c0)) (fun (u : Nat → Nat) t => (fun (u : Nat → Nat) (H : Heap) => sw_MP D g k p a b ln u nr H) u t.heap) (sw_XA g)) 0 0 (sw_XA g) := by
  refine so_wi (own := RX1) (Bw := fun (u : Nat → Nat) (H : Heap) => sw_MP D g k p a b ln u nr H) (by decide) rfl (Nat.le_of_ble_eq_true rfl) (fun P e R s m args bl mt c Q ls S hR hL hB hl hret => ?_)
  obtain ⟨hP, hK⟩ := hB
  obtain ⟨hx, hb, hml, hown, hts⟩ := id S
  have hl : lv_has ls 8 [(0, .ref (g 0)), (1, .int (x)), (2, .int (y))] := hl
  have hS : va_S (sw_XA g) s.heap s.heap [] := va_S.rf
  obtain ⟨H, hH⟩ : ∃ H, H = s.heap := ⟨_, rfl⟩
  obtain ⟨locs, hlo⟩ : ∃ L : List Loc, L = [] := ⟨_, rfl⟩
  have hP : sw_MP D g k p a b ln lf nr H := by rw [hH]; exact hP
  have hS : va_S (sw_XA g) s.heap H locs := by rw [hH, hlo]; exact hS
  have hgo : W P l e R s m args bl mt c H locs 0 0 Q (F0 m 0 ls []) := by
    refine lv_aload_n hx hb dX1_walkAt_0 rfl (lv_at hl 0 rfl) ?_
    refine mc_ro (As := []) (n := 0) S (cM_streets l D g k p a b ln lf nr hp) (lw_V q211 q204 q205 q22 q206) hdX1_streets (by omega) (by omega) (by decide) (Nat.zero_le _) (Nat.zero_le _) hK hP rfl hl.1 (Nat.le_of_ble_eq_true rfl) dX1_walkAt_1 rfl (fun r hq => ?_)
    subst hq
    refine lv_istore_n (lv' := [(3, .int (nI (p))), (0, .ref (g 0)), (1, .int (x)), (2, .int (y))]) hx hb dX1_walkAt_4 rfl hl (by decide) rfl (fun ls hl => ?_)
    refine lv_aload_n hx hb dX1_walkAt_5 rfl (lv_at hl 1 rfl) ?_
    refine mc_ro (As := []) (n := 0) S (cM_bestSet l D g k p a b ln lf nr hp hr) (lw_V q266 q247 q248 q22 q249) hdX1_bestSet (by omega) (by omega) (by decide) (Nat.zero_le _) (Nat.zero_le _) hK hP rfl hl.1 (Nat.le_of_ble_eq_true rfl) dX1_walkAt_6 rfl (fun r hq => ?_)
    obtain ⟨B, ho, rfl⟩ := hq
    have hB := sw_fi_lt ho B rfl
    refine lv_istore (lv' := [(4, .int (nI (B))), (3, .int (nI (p))), (0, .ref (g 0)), (1, .int (x)), (2, .int (y))]) hx hb dX1_walkAt_9 hl (by decide) rfl (fun ls hl => ?_)
    refine lv_aload_n hx hb dX1_walkAt_11 rfl (lv_at hl 2 rfl) ?_
    refine mc_ro (As := []) (n := 0) S (cM_walkLength l D g k p a b ln lf nr hp hr) (lw_V q272 q263 q264 q22 q265) hdX1_walkLength (by omega) (by omega) (by decide) (Nat.zero_le _) (Nat.zero_le _) hK hP rfl hl.1 (Nat.le_of_ble_eq_true rfl) dX1_walkAt_12 rfl (fun r0 hq => ?_)
    obtain ⟨B1, hB1, hv3⟩ := hq
    have hv4 := sw_ln_bound (l := ln) B1 10 (fun s hs => (hr s hs).2.2)
    have hv5 := sw_ln_bound (l := ln) p 10 (fun s hs => (hr s hs).2.2)
    refine lv_if_lt (tgt := 36) hx hb dX1_walkAt_15 (by decide) (fun c15 => ?_) (fun c15 => ?_)
    · refine lv_iconst (v := -1) hx hb dX1_walkAt_36 (by decide) ?_
      exact hret _ _ _ lf _ _ dX1_walkAt_37 (Or.inl ⟨fun z => by rcases hv3 with q | q; exact q.1 z.2.2; exact absurd c15 (by rw [q.2]; exact nI_pos (by omega)), rfl⟩) hP hS
    · refine lv_aload_n hx hb dX1_walkAt_18 rfl (lv_at hl 2 rfl) ?_
      refine lv_iload_n hx hb dX1_walkAt_19 rfl (lv_at hl 3 rfl) ?_
      refine mc_ro (As := [.int (x)]) (n := 1) S (cM_corner l D g k p a b ln lf nr x) (lw_V q187 q189 qs10 q22 q190) hdX1_corner (by omega) (by omega) (by decide) (Nat.zero_le _) (Nat.zero_le _) hK hP rfl hl.1 (Nat.le_of_ble_eq_true rfl) dX1_walkAt_20 rfl (fun r hq => ?_)
      subst hq
      refine sr_bf (tgt := 36) hx hb dX1_walkAt_23 (by decide) (fun c23 => ?_) (fun c23 => ?_)
      · refine lv_iconst (v := -1) hx hb dX1_walkAt_36 (by decide) ?_
        exact hret _ _ _ lf _ _ dX1_walkAt_37 (Or.inl ⟨fun z => by rw [z.1] at c23; exact absurd c23 (by decide), rfl⟩) hP hS
      · refine lv_iload_n hx hb dX1_walkAt_26 rfl (lv_at hl 4 rfl) ?_
        refine lv_if_lt (tgt := 36) hx hb dX1_walkAt_27 (by decide) (fun c27 => ?_) (fun c27 => ?_)
        · refine lv_iconst (v := -1) hx hb dX1_walkAt_36 (by decide) ?_
          exact hret _ _ _ lf _ _ dX1_walkAt_37 (Or.inl ⟨fun z => by rw [sn_in_neg c27] at z; exact absurd z.2.1 (by decide), rfl⟩) hP hS
        · refine lv_iload_n hx hb dX1_walkAt_30 rfl (lv_at hl 4 rfl) ?_
          refine lv_bipush (v := nI 20) hx hb dX1_walkAt_31 (by decide) ?_
          refine lv_icmp_lt (tgt := 38) hx hb dX1_walkAt_33 (by decide) (fun c33 => ?_) (fun c33 => ?_)
          · have hcon : sw_con a b p := by
              rcases hv3 with q | q
              · rw [q.2] at c15
                exact absurd (by decide) c15
              · exact q.1
            obtain ⟨c0, hc0, rfl⟩ := sn_in_t (by decide) c23
            obtain ⟨k0, hk0, rfl⟩ := sn_in_t (by decide) (sn_in_ok c27 (sn_nge c33))
            refine lv_iconst (v := nI 0) hx hb dX1_walkAt_38 (by decide) ?_
            refine lv_istore (lv' := [(5, .int (nI (0))), (4, .int (nI (B))), (3, .int (nI (p))), (0, .ref (g 0)), (1, .int (nI (c0))), (2, .int (nI (k0)))]) hx hb dX1_walkAt_39 hl (by decide) rfl (fun ls hl => ?_)
            have L41 : ∀ (n i : Nat) (f1 : Nat → Nat), i ≤ 10 → 11 ≤ i + n → (∀ t, t < i → f1 t = sw_f0 p B t) → ∀ (H : Heap) (locs : List Loc), sw_MP D g k p a b ln f1 nr H → va_S (sw_XA g) s.heap H locs → ∀ (ls : Array Slot), lv_has ls 8 [(0, .ref (g 0)), (1, .int (nI (c0))), (2, .int (nI (k0))), (3, .int (nI (p))), (4, .int (nI (B))), (5, .int (nI (i)))] → W P l e R s m args bl mt c H locs 0 0 Q (F0 m 41 ls []) := by
              intro n
              induction n with
              | zero => intro i f1 h1 h2; exact absurd h2 (by omega)
              | succ n ih41 =>
                intro i f1 hi41 hn41 hf1 H locs hP hS ls hl
                refine lv_iload hx hb dX1_walkAt_41 (lv_at hl 5 rfl) ?_
                refine lv_bipush (v := nI 10) hx hb dX1_walkAt_43 (by decide) ?_
                refine sr_ge (tgt := 75) hx hb (by omega) (by omega) dX1_walkAt_45 (by decide) (fun c45 => ?_) (fun c45 => ?_)
                · have hf9 : ∀ t, t < 10 → f1 t = sw_f0 p B t := fun t ht => hf1 t (by omega)
                  refine lv_iload_n hx hb dX1_walkAt_75 rfl (lv_at hl 1 rfl) ?_
                  refine lv_istore (lv' := [(5, .int (nI (c0))), (0, .ref (g 0)), (1, .int (nI (c0))), (2, .int (nI (k0))), (3, .int (nI (p))), (4, .int (nI (B)))]) hx hb dX1_walkAt_76 hl (by decide) rfl (fun ls hl => ?_)
                  refine lv_iconst (v := nI 0) hx hb dX1_walkAt_78 (by decide) ?_
                  refine lv_istore (lv' := [(6, .int (nI (0))), (5, .int (nI (c0))), (0, .ref (g 0)), (1, .int (nI (c0))), (2, .int (nI (k0))), (3, .int (nI (p))), (4, .int (nI (B)))]) hx hb dX1_walkAt_79 hl (by decide) rfl (fun ls hl => ?_)
                  have L81 : ∀ (n i : Nat) (f2 : Nat → Nat) (A : Nat), i ≤ k0 → k0 + 1 ≤ i + n → (sw_wk a b (k0 - i) f2 A = sw_wk a b k0 (sw_f0 p B) c0) → (A < 6) → (∀ s, s < 10 → f2 s ≤ 2) → ∀ (H : Heap) (locs : List Loc), sw_MP D g k p a b ln f2 nr H → va_S (sw_XA g) s.heap H locs → ∀ (ls : Array Slot), lv_has ls 8 [(0, .ref (g 0)), (1, .int (nI (c0))), (2, .int (nI (k0))), (3, .int (nI (p))), (4, .int (nI (B))), (5, .int (nI (A))), (6, .int (nI (i)))] → W P l e R s m args bl mt c H locs 0 0 Q (F0 m 81 ls []) := by
                    intro n
                    induction n with
                    | zero => intro i f2 A h1 h2; exact absurd h2 (by omega)
                    | succ n ih81 =>
                      intro i f2 A hi81 hn81 hw5 hA5 hf2 H locs hP hS ls hl
                      refine lv_iload hx hb dX1_walkAt_81 (lv_at hl 6 rfl) ?_
                      refine lv_iload_n hx hb dX1_walkAt_83 rfl (lv_at hl 2 rfl) ?_
                      refine sr_gt (tgt := 146) hx hb (by omega) (by omega) dX1_walkAt_84 (by decide) (fun c84 => by exfalso; omega) (fun c84 => ?_)
                      refine lv_aload_n hx hb dX1_walkAt_87 rfl (lv_at hl 0 rfl) ?_
                      refine lv_iload hx hb dX1_walkAt_88 (lv_at hl 5 rfl) ?_
                      refine mc_wi (As := [.int (nI (A))]) (n := 1) S (cM_nextStreet l D g k p a b ln f2 nr hg hr hA5 hf2) (lw_V q273 q275 qs18 q22 q276) hdX1_nextStreet (by omega) (by omega) (by decide) (Nat.zero_le _) (Nat.zero_le _) hK hP hS rfl hl.1 (Nat.le_of_ble_eq_true rfl) dX1_walkAt_90 rfl (fun r f3 H locs hq hP hS => ?_)
                      have hP : sw_MP D g k p a b ln f3 nr H := hP
                      obtain ⟨rfl, hu⟩ := hq
                      refine lv_istore (lv' := [(7, .int (sw_ov (sw_nxt a b f2 A))), (0, .ref (g 0)), (1, .int (nI (c0))), (2, .int (nI (k0))), (3, .int (nI (p))), (4, .int (nI (B))), (5, .int (nI (A))), (6, .int (nI (i)))]) hx hb dX1_walkAt_93 hl (by decide) rfl (fun ls hl => ?_)
                      refine lv_iload hx hb dX1_walkAt_95 (lv_at hl 0 rfl) ?_
                      refine lv_if_lt (tgt := 106) hx hb dX1_walkAt_97 (by decide) (fun c97 => ?_) (fun c97 => ?_)
                      · refine lv_iload hx hb dX1_walkAt_106 (lv_at hl 0 rfl) ?_
                        exact hret _ _ _ f3 _ _ dX1_walkAt_108 (Or.inr ⟨c0, k0, B, hc0, hk0, rfl, rfl, hcon, ho, by rw [← hw5, (sn_ov_neg sw_nxt_lt).mp c97, sw_wk_none ((sn_ov_neg sw_nxt_lt).mp c97)]⟩) hP hS
                      · refine lv_iload hx hb dX1_walkAt_100 (lv_at hl 7 rfl) ?_
                        refine lv_iload_n hx hb dX1_walkAt_102 rfl (lv_at hl 3 rfl) ?_
                        refine sr_ne (tgt := 109) hx hb (by omega) (by omega) dX1_walkAt_103 (by decide) (fun c103 => ?_) (fun c103 => ?_)
                        · obtain ⟨s1, hs1⟩ : ∃ s1, sw_nxt a b f2 A = some s1 := by
                            cases hz : sw_nxt a b f2 A with
                            | none => exact absurd ((sn_ov_neg sw_nxt_lt).mpr hz) c97
                            | some s1 => exact ⟨s1, rfl⟩
                          rw [hs1] at hl hu
                          have hl : lv_has ls 8 [(7, .int (nI (s1))), (0, .ref (g 0)), (1, .int (nI (c0))), (2, .int (nI (k0))), (3, .int (nI (p))), (4, .int (nI (B))), (5, .int (nI (A))), (6, .int (nI (i)))] := hl
                          have hu : f3 = va_up f2 s1 (f2 s1 - 1) := hu
                          subst hu
                          obtain ⟨q1, q2, q3⟩ := sw_nxt_some hs1
                          obtain ⟨ha6, hb6, -⟩ := hr s1 q1
                          refine lv_aload_n hx hb dX1_walkAt_109 rfl (lv_at hl 1 rfl) ?_
                          refine mg2 hx hb hts hown hK hP dX1_walkAt_110 ?_
                          refine lv_iload hx hb dX1_walkAt_113 (lv_at hl 0 rfl) ?_
                          refine ml2 hx hb hK hP (by omega) dX1_walkAt_115 ?_
                          refine lv_iload hx hb dX1_walkAt_116 (lv_at hl 6 rfl) ?_
                          refine sr_ne (tgt := 131) hx hb (by omega) (by omega) dX1_walkAt_118 (by decide) (fun c118 => ?_) (fun c118 => ?_)
                          · refine lv_aload_n hx hb dX1_walkAt_131 rfl (lv_at hl 1 rfl) ?_
                            refine mg2 hx hb hts hown hK hP dX1_walkAt_132 ?_
                            refine lv_iload hx hb dX1_walkAt_135 (lv_at hl 0 rfl) ?_
                            refine ml2 hx hb hK hP (by omega) dX1_walkAt_137 ?_
                            refine lv_istore (lv' := [(5, .int (nI (a (s1)))), (7, .int (nI (s1))), (0, .ref (g 0)), (1, .int (nI (c0))), (2, .int (nI (k0))), (3, .int (nI (p))), (4, .int (nI (B))), (6, .int (nI (i)))]) hx hb dX1_walkAt_138 hl (by decide) rfl (fun ls hl => ?_)
                            refine lv_iinc (v := nI (i + 1)) (lv' := [(6, .int (nI (i + 1))), (5, .int (nI (a (s1)))), (7, .int (nI (s1))), (0, .ref (g 0)), (1, .int (nI (c0))), (2, .int (nI (k0))), (3, .int (nI (p))), (4, .int (nI (B)))]) hx hb dX1_walkAt_140 hl (k := 7) rfl (sn_inc (i)) (by decide) rfl (fun ls hl => ?_)
                            refine lv_goto (tgt := 81) hx hb dX1_walkAt_143 (by decide) ?_
                            exact ih81 (i + 1) (va_up f2 s1 (f2 s1 - 1)) (a (s1)) (by omega) (by omega) (by rw [← hw5, show k0 - i = (k0 - (i + 1)) + 1 by omega, sw_wk_s hs1, show a s1 + b s1 - A = a (s1) by omega]) (by omega) (fun t ht => by unfold va_up; have := hf2 t ht; have := hf2 s1 q1; split <;> omega) _ _ hP hS ls (lv_sub hl [3, 4, 5, 6, 7, 1, 0] rfl)
                          · refine lv_aload_n hx hb dX1_walkAt_121 rfl (lv_at hl 1 rfl) ?_
                            refine mg3 hx hb hts hown hK hP dX1_walkAt_122 ?_
                            refine lv_iload hx hb dX1_walkAt_125 (lv_at hl 0 rfl) ?_
                            refine ml3 hx hb hK hP (by omega) dX1_walkAt_127 ?_
                            refine lv_goto (tgt := 138) hx hb dX1_walkAt_128 (by decide) ?_
                            refine lv_istore (lv' := [(5, .int (nI (b (s1)))), (7, .int (nI (s1))), (0, .ref (g 0)), (1, .int (nI (c0))), (2, .int (nI (k0))), (3, .int (nI (p))), (4, .int (nI (B))), (6, .int (nI (i)))]) hx hb dX1_walkAt_138 hl (by decide) rfl (fun ls hl => ?_)
                            refine lv_iinc (v := nI (i + 1)) (lv' := [(6, .int (nI (i + 1))), (5, .int (nI (b (s1)))), (7, .int (nI (s1))), (0, .ref (g 0)), (1, .int (nI (c0))), (2, .int (nI (k0))), (3, .int (nI (p))), (4, .int (nI (B)))]) hx hb dX1_walkAt_140 hl (k := 7) rfl (sn_inc (i)) (by decide) rfl (fun ls hl => ?_)
                            refine lv_goto (tgt := 81) hx hb dX1_walkAt_143 (by decide) ?_
                            exact ih81 (i + 1) (va_up f2 s1 (f2 s1 - 1)) (b (s1)) (by omega) (by omega) (by rw [← hw5, show k0 - i = (k0 - (i + 1)) + 1 by omega, sw_wk_s hs1, show a s1 + b s1 - A = b (s1) by omega]) (by omega) (fun t ht => by unfold va_up; have := hf2 t ht; have := hf2 s1 q1; split <;> omega) _ _ hP hS ls (lv_sub hl [3, 4, 5, 6, 7, 1, 0] rfl)
                        · refine lv_iload hx hb dX1_walkAt_106 (lv_at hl 0 rfl) ?_
                          exact hret _ _ _ f3 _ _ dX1_walkAt_108 (Or.inr ⟨c0, k0, B, hc0, hk0, rfl, rfl, hcon, ho, by rw [← hw5, show k0 - i = 0 by omega]; rfl⟩) hP hS
                  exact L81 (k0 + 1) (0) (f1) (c0) (by omega) (by omega) (sw_wk_eq k0 hf9) hc0 (fun s hs => by rw [hf9 s hs]; exact sw_f0_le p B s) _ _ hP hS ls (lv_sub hl [2, 3, 4, 5, 6, 1, 0] rfl)
                · refine lv_aload_n hx hb dX1_walkAt_48 rfl (lv_at hl 0 rfl) ?_
                  refine mg5 hx hb hts hown hK hP dX1_walkAt_49 ?_
                  refine lv_iload hx hb dX1_walkAt_52 (lv_at hl 5 rfl) ?_
                  refine lv_iload_n hx hb dX1_walkAt_54 rfl (lv_at hl 3 rfl) ?_
                  refine lv_iload hx hb dX1_walkAt_55 (lv_at hl 5 rfl) ?_
                  refine sr_bit hx hb (by omega) (by omega) dX1_walkAt_57 dX1_walkAt_58 dX1_walkAt_59 ?_
                  refine lv_iload hx hb dX1_walkAt_60 (lv_at hl 4 rfl) ?_
                  refine lv_iload hx hb dX1_walkAt_62 (lv_at hl 5 rfl) ?_
                  refine sr_bit hx hb (by omega) (by omega) dX1_walkAt_64 dX1_walkAt_65 dX1_walkAt_66 ?_
                  refine sr_add hx hb dX1_walkAt_67 ?_
                  refine ms5 hx hb hK hP hg hS (by omega) dX1_walkAt_68 (fun H locs hP hS => ?_)
                  refine lv_iinc (v := nI (i + 1)) (lv' := [(5, .int (nI (i + 1))), (0, .ref (g 0)), (1, .int (nI (c0))), (2, .int (nI (k0))), (3, .int (nI (p))), (4, .int (nI (B)))]) hx hb dX1_walkAt_69 hl (k := 5) rfl (sn_inc (i)) (by decide) rfl (fun ls hl => ?_)
                  refine lv_goto (tgt := 41) hx hb dX1_walkAt_72 (by decide) ?_
                  exact ih41 (i + 1) (va_up f1 (i) ((Bool.toNat ((p).testBit (i))) + (Bool.toNat ((B).testBit (i))))) (by omega) (by omega) (lt_s (fun t ht => by rw [va_up_ne _ _ (Nat.ne_of_lt ht)]; exact hf1 t ht) (by rw [sn_up_at]; rfl)) _ _ hP hS ls (lv_sub hl [1, 2, 3, 4, 5, 0] rfl)
            exact L41 (11) (0) (lf) (by omega) (by omega) (fun t z => absurd z (Nat.not_lt_zero t)) _ _ hP hS ls (lv_sub hl [3, 4, 5, 2, 1, 0] rfl)
          · refine lv_iconst (v := -1) hx hb dX1_walkAt_36 (by decide) ?_
            exact hret _ _ _ lf _ _ dX1_walkAt_37 (Or.inl ⟨fun z => by rw [sn_in_ge (sn_nlt c33)] at z; exact absurd z.2.1 (by decide), rfl⟩) hP hS
  rw [hH, hlo] at hgo
  exact hgo
theorem hdX1_walkAt : yX1_walkAt.cls = RX1 ∧ yX1_walkAt.cls ≠ "java/lang/invoke/MethodHandle" ∧ yX1_walkAt.cls ≠ "java/lang/invoke/VarHandle" ∧ (parseMethodDescriptor yX1_walkAt.desc).map (fun d => d.parameters.length) = some 2 := by decide +kernel
set_option maxHeartbeats 4000000 in
set_option maxRecDepth 100000 in
theorem cM_build (l : Launch) (D : va_G) (g : Nat → Nat) (k : Nat → ClassId) (p : Nat) (a b ln lf nr : Nat → Nat) (x y z : Int32) (hg : sw_XD g) : Met l yX1_build (ws_ yX1_build cX1_build 5 (some .int)) (sw_rm 1) (va_Pc [.ref (g 0), .int (x), .int (y), .int (z)] (fun U => sw_MP D g k p a b ln lf nr U.heap ∧ sw_MK D k U)) (va_Qi (fun r (u : Nat × (Nat → Nat) × (Nat → Nat) × (Nat → Nat)) => (r, u) = sw_bld p a b ln x y z) (fun (u : Nat × (Nat → Nat) × (Nat → Nat) × (Nat → Nat)) t => (fun (u : Nat × (Nat → Nat) × (Nat → Nat) × (Nat → Nat)) (H : Heap) => sw_MP D g k u.1 u.2.1 u.2.2.1 u.2.2.2 lf nr H) u t.heap) (sw_XA g)) 0 0 (sw_XA g) := by
  refine so_wi (own := RX1) (Bw := fun (u : Nat × (Nat → Nat) × (Nat → Nat) × (Nat → Nat)) (H : Heap) => sw_MP D g k u.1 u.2.1 u.2.2.1 u.2.2.2 lf nr H) (by decide) rfl (Nat.le_of_ble_eq_true rfl) (fun P e R s m args bl mt c Q ls S hR hL hB hl hret => ?_)
  obtain ⟨hP, hK⟩ := hB
  obtain ⟨hx, hb, hml, hown, hts⟩ := id S
  have hl : lv_has ls 5 [(0, .ref (g 0)), (1, .int (x)), (2, .int (y)), (3, .int (z))] := hl
  have hS : va_S (sw_XA g) s.heap s.heap [] := va_S.rf
  obtain ⟨H, hH⟩ : ∃ H, H = s.heap := ⟨_, rfl⟩
  obtain ⟨locs, hlo⟩ : ∃ L : List Loc, L = [] := ⟨_, rfl⟩
  have hP : sw_MP D g k p a b ln lf nr H := by rw [hH]; exact hP
  have hS : va_S (sw_XA g) s.heap H locs := by rw [hH, hlo]; exact hS
  have hgo : W P l e R s m args bl mt c H locs 0 0 Q (F0 m 0 ls []) := by
    refine lv_iload_n hx hb dX1_build_0 rfl (lv_at hl 1 rfl) ?_
    refine lv_iload_n hx hb dX1_build_1 rfl (lv_at hl 2 rfl) ?_
    refine lv_icmp_eq (tgt := 31) hx hb dX1_build_2 (by decide) (fun c2 => ?_) (fun c2 => ?_)
    · refine lv_iconst (v := -1) hx hb dX1_build_31 (by decide) ?_
      exact hret _ _ _ (p, a, b, ln) _ _ dX1_build_32 (sw_bld_no (fun q => q.1 c2)).symm hP hS
    · refine lv_aload_n hx hb dX1_build_5 rfl (lv_at hl 0 rfl) ?_
      refine lv_iload_n hx hb dX1_build_6 rfl (lv_at hl 1 rfl) ?_
      refine mc_ro (As := [.int (x)]) (n := 1) S (cM_corner l D g k p a b ln lf nr x) (lw_V q187 q189 qs10 q22 q190) hdX1_corner (by omega) (by omega) (by decide) (Nat.zero_le _) (Nat.zero_le _) hK hP rfl hl.1 (Nat.le_of_ble_eq_true rfl) dX1_build_7 rfl (fun r hq => ?_)
      subst hq
      refine sr_bf (tgt := 31) hx hb dX1_build_10 (by decide) (fun c10 => ?_) (fun c10 => ?_)
      · refine lv_iconst (v := -1) hx hb dX1_build_31 (by decide) ?_
        exact hret _ _ _ (p, a, b, ln) _ _ dX1_build_32 (sw_bld_no (fun q => by rw [c10] at q; exact absurd q.2.1 (by decide))).symm hP hS
      · refine lv_aload_n hx hb dX1_build_13 rfl (lv_at hl 0 rfl) ?_
        refine lv_iload_n hx hb dX1_build_14 rfl (lv_at hl 2 rfl) ?_
        refine mc_ro (As := [.int (y)]) (n := 1) S (cM_corner l D g k p a b ln lf nr y) (lw_V q187 q189 qs10 q22 q190) hdX1_corner (by omega) (by omega) (by decide) (Nat.zero_le _) (Nat.zero_le _) hK hP rfl hl.1 (Nat.le_of_ble_eq_true rfl) dX1_build_15 rfl (fun r hq => ?_)
        subst hq
        refine sr_bf (tgt := 31) hx hb dX1_build_18 (by decide) (fun c18 => ?_) (fun c18 => ?_)
        · refine lv_iconst (v := -1) hx hb dX1_build_31 (by decide) ?_
          exact hret _ _ _ (p, a, b, ln) _ _ dX1_build_32 (sw_bld_no (fun q => by rw [c18] at q; exact absurd q.2.2.1 (by decide))).symm hP hS
        · refine lv_iload_n hx hb dX1_build_21 rfl (lv_at hl 3 rfl) ?_
          refine lv_if_lt (tgt := 31) hx hb dX1_build_22 (by decide) (fun c22 => ?_) (fun c22 => ?_)
          · refine lv_iconst (v := -1) hx hb dX1_build_31 (by decide) ?_
            exact hret _ _ _ (p, a, b, ln) _ _ dX1_build_32 (sw_bld_no (fun q => by rw [sn_in_neg c22] at q; exact absurd q.2.2.2 (by decide))).symm hP hS
          · refine lv_iload_n hx hb dX1_build_25 rfl (lv_at hl 3 rfl) ?_
            refine lv_bipush (v := nI 20) hx hb dX1_build_26 (by decide) ?_
            refine lv_icmp_le (tgt := 33) hx hb dX1_build_28 (by decide) (fun c28 => ?_) (fun c28 => ?_)
            · have hok : x ≠ y ∧ sw_inb x 6 = true ∧ sw_inb y 6 = true ∧ sw_inb z 21 = true := ⟨c2, c10, c18, sn_in_21 c22 c28⟩
              obtain ⟨x0, hx0, rfl⟩ := sn_in_t (by decide) c10
              obtain ⟨y0, hy0, rfl⟩ := sn_in_t (by decide) c18
              obtain ⟨z0, hz0, rfl⟩ := sn_in_t (by decide) (sn_in_21 c22 c28)
              refine lv_iconst (v := nI 0) hx hb dX1_build_33 (by decide) ?_
              refine lv_istore (lv' := [(4, .int (nI (0))), (0, .ref (g 0)), (1, .int (nI (x0))), (2, .int (nI (y0))), (3, .int (nI (z0)))]) hx hb dX1_build_34 hl (by decide) rfl (fun ls hl => ?_)
              have L36 : ∀ (n i : Nat), i ≤ 10 → 11 ≤ i + n → (sw_nx (fun s => !p.testBit s) (10 - i) i = sw_nx (fun s => !p.testBit s) 10 0) → ∀ (H : Heap) (locs : List Loc), sw_MP D g k p a b ln lf nr H → va_S (sw_XA g) s.heap H locs → ∀ (ls : Array Slot), lv_has ls 5 [(0, .ref (g 0)), (1, .int (nI (x0))), (2, .int (nI (y0))), (3, .int (nI (z0))), (4, .int (nI (i)))] → W P l e R s m args bl mt c H locs 0 0 Q (F0 m 36 ls []) := by
                intro n
                induction n with
                | zero => intro i h1 h2; exact absurd h2 (by omega)
                | succ n ih36 =>
                  intro i hi36 hn36 hn H locs hP hS ls hl
                  refine lv_iload hx hb dX1_build_36 (lv_at hl 4 rfl) ?_
                  refine lv_bipush (v := nI 10) hx hb dX1_build_38 (by decide) ?_
                  refine sr_ge (tgt := 94) hx hb (by omega) (by omega) dX1_build_40 (by decide) (fun c40 => ?_) (fun c40 => ?_)
                  · refine lv_bipush (v := -2) hx hb dX1_build_94 (by decide) ?_
                    exact hret _ _ _ (p, a, b, ln) _ _ dX1_build_96 (sw_bld_full hok (by rw [← hn, show i = 10 by omega]; rfl)).symm hP hS
                  · refine lv_aload_n hx hb dX1_build_43 rfl (lv_at hl 0 rfl) ?_
                    refine mg1 hx hb hts hown hK hP dX1_build_44 ?_
                    refine lv_iload hx hb dX1_build_47 (lv_at hl 4 rfl) ?_
                    refine ml1 hx hb hK hP (by omega) dX1_build_49 ?_
                    refine sr_bt (tgt := 88) hx hb dX1_build_50 (by decide) (fun c50 => ?_) (fun c50 => ?_)
                    · refine lv_iinc (v := nI (i + 1)) (lv' := [(4, .int (nI (i + 1))), (0, .ref (g 0)), (1, .int (nI (x0))), (2, .int (nI (y0))), (3, .int (nI (z0)))]) hx hb dX1_build_88 hl (k := 4) rfl (sn_inc (i)) (by decide) rfl (fun ls hl => ?_)
                      refine lv_goto (tgt := 36) hx hb dX1_build_91 (by decide) ?_
                      exact ih36 (i + 1) (by omega) (by omega) (by rw [← hn]; exact (sw_nx_n (by omega) (by rw [c50]; rfl)).symm) _ _ hP hS ls (lv_sub hl [1, 2, 3, 4, 0] rfl)
                    · refine lv_aload_n hx hb dX1_build_53 rfl (lv_at hl 0 rfl) ?_
                      refine mg1 hx hb hts hown hK hP dX1_build_54 ?_
                      refine lv_iload hx hb dX1_build_57 (lv_at hl 4 rfl) ?_
                      refine lv_iconst (v := nI 1) hx hb dX1_build_59 (by decide) ?_
                      refine ms1t hx hb hK hP hg hS (by omega) dX1_build_60 (fun H locs hP hS => ?_)
                      refine lv_aload_n hx hb dX1_build_61 rfl (lv_at hl 0 rfl) ?_
                      refine mg2 hx hb hts hown hK hP dX1_build_62 ?_
                      refine lv_iload hx hb dX1_build_65 (lv_at hl 4 rfl) ?_
                      refine lv_iload_n hx hb dX1_build_67 rfl (lv_at hl 1 rfl) ?_
                      refine ms2 hx hb hK hP hg hS (by omega) dX1_build_68 (fun H locs hP hS => ?_)
                      refine lv_aload_n hx hb dX1_build_69 rfl (lv_at hl 0 rfl) ?_
                      refine mg3 hx hb hts hown hK hP dX1_build_70 ?_
                      refine lv_iload hx hb dX1_build_73 (lv_at hl 4 rfl) ?_
                      refine lv_iload_n hx hb dX1_build_75 rfl (lv_at hl 2 rfl) ?_
                      refine ms3 hx hb hK hP hg hS (by omega) dX1_build_76 (fun H locs hP hS => ?_)
                      refine lv_aload_n hx hb dX1_build_77 rfl (lv_at hl 0 rfl) ?_
                      refine mg4 hx hb hts hown hK hP dX1_build_78 ?_
                      refine lv_iload hx hb dX1_build_81 (lv_at hl 4 rfl) ?_
                      refine lv_iload_n hx hb dX1_build_83 rfl (lv_at hl 3 rfl) ?_
                      refine ms4 hx hb hK hP hg hS (by omega) dX1_build_84 (fun H locs hP hS => ?_)
                      refine lv_iload hx hb dX1_build_85 (lv_at hl 4 rfl) ?_
                      exact hret _ _ _ (p ||| 2 ^ (i), va_up a (i) (x0), va_up b (i) (y0), va_up ln (i) (z0)) _ _ dX1_build_87 (by rw [sw_bld_some hok (s := i) (by rw [← hn]; exact sw_nx_s (by omega) (by rw [c50]; rfl)), nI_clamp (by omega), nI_clamp (by omega), nI_clamp (by omega)]) hP hS
              exact L36 (11) (0) (by omega) (by omega) rfl _ _ hP hS ls (lv_sub hl [1, 2, 3, 4, 0] rfl)
            · refine lv_iconst (v := -1) hx hb dX1_build_31 (by decide) ?_
              exact hret _ _ _ (p, a, b, ln) _ _ dX1_build_32 (sw_bld_no (fun q => by rw [sn_in_21f c28] at q; exact absurd q.2.2.2 (by decide))).symm hP hS
  rw [hH, hlo] at hgo
  exact hgo
theorem hdX1_build : yX1_build.cls = RX1 ∧ yX1_build.cls ≠ "java/lang/invoke/MethodHandle" ∧ yX1_build.cls ≠ "java/lang/invoke/VarHandle" ∧ (parseMethodDescriptor yX1_build.desc).map (fun d => d.parameters.length) = some 3 := by decide +kernel
set_option maxHeartbeats 4000000 in
set_option maxRecDepth 100000 in
theorem cM_close (l : Launch) (D : va_G) (g : Nat → Nat) (k : Nat → ClassId) (p : Nat) (a b ln lf nr : Nat → Nat) (x : Int32) (hg : sw_XD g) : Met l yX1_close (ws_ yX1_close cX1_close 2 (some .boolean)) (sw_rm 1) (va_Pc [.ref (g 0), .int (x)] (fun U => sw_MP D g k p a b ln lf nr U.heap ∧ sw_MK D k U)) (va_Qi (fun r (u : Nat) => r = nI (Bool.toNat (sw_has p x)) ∧ u = sw_cls p x) (fun (u : Nat) t => (fun (u : Nat) (H : Heap) => sw_MP D g k u a b ln lf nr H) u t.heap) (sw_XA g)) 0 0 (sw_XA g) := by
  refine so_wz (own := RX1) (Bw := fun (u : Nat) (H : Heap) => sw_MP D g k u a b ln lf nr H) (by decide) rfl (Nat.le_of_ble_eq_true rfl) (fun v u h => ⟨_, h.1⟩) (fun P e R s m args bl mt c Q ls S hR hL hB hl hret => ?_)
  obtain ⟨hP, hK⟩ := hB
  obtain ⟨hx, hb, hml, hown, hts⟩ := id S
  have hl : lv_has ls 2 [(0, .ref (g 0)), (1, .int (x))] := hl
  have hS : va_S (sw_XA g) s.heap s.heap [] := va_S.rf
  obtain ⟨H, hH⟩ : ∃ H, H = s.heap := ⟨_, rfl⟩
  obtain ⟨locs, hlo⟩ : ∃ L : List Loc, L = [] := ⟨_, rfl⟩
  have hP : sw_MP D g k p a b ln lf nr H := by rw [hH]; exact hP
  have hS : va_S (sw_XA g) s.heap H locs := by rw [hH, hlo]; exact hS
  have hgo : W P l e R s m args bl mt c H locs 0 0 Q (F0 m 0 ls []) := by
    refine lv_aload_n hx hb dX1_close_0 rfl (lv_at hl 0 rfl) ?_
    refine lv_iload_n hx hb dX1_close_1 rfl (lv_at hl 1 rfl) ?_
    refine mc_ro (As := [.int (x)]) (n := 1) S (cM_street l D g k p a b ln lf nr x) (lw_V q195 q197 qs11 q22 q198) hdX1_street (by omega) (by omega) (by decide) (Nat.zero_le _) (Nat.zero_le _) hK hP rfl hl.1 (Nat.le_of_ble_eq_true rfl) dX1_close_2 rfl (fun r hq => ?_)
    subst hq
    refine sr_bt (tgt := 10) hx hb dX1_close_5 (by decide) (fun c5 => ?_) (fun c5 => ?_)
    · obtain ⟨s0, hs0, rfl, hps⟩ := sn_has_t c5
      refine lv_aload_n hx hb dX1_close_10 rfl (lv_at hl 0 rfl) ?_
      refine mg1 hx hb hts hown hK hP dX1_close_11 ?_
      refine lv_iload_n hx hb dX1_close_14 rfl (lv_at hl 1 rfl) ?_
      refine lv_iconst (v := nI 0) hx hb dX1_close_15 (by decide) ?_
      refine ms1f hx hb hK hP hg hS (by omega) dX1_close_16 (fun H locs hP hS => ?_)
      refine lv_iconst (v := nI 1) hx hb dX1_close_17 (by decide) ?_
      exact hret _ _ _ (sw_an p (2 ^ (s0))) _ _ dX1_close_18 ⟨by rw [c5]; rfl, by unfold sw_cls; rw [c5, nI_clamp (by omega)]; rfl⟩ hP hS
    · refine lv_iconst (v := nI 0) hx hb dX1_close_8 (by decide) ?_
      exact hret _ _ _ p _ _ dX1_close_9 ⟨by rw [c5]; rfl, by unfold sw_cls; rw [c5]; rfl⟩ hP hS
  rw [hH, hlo] at hgo
  exact hgo
theorem hdX1_close : yX1_close.cls = RX1 ∧ yX1_close.cls ≠ "java/lang/invoke/MethodHandle" ∧ yX1_close.cls ≠ "java/lang/invoke/VarHandle" ∧ (parseMethodDescriptor yX1_close.desc).map (fun d => d.parameters.length) = some 1 := by decide +kernel
set_option maxHeartbeats 4000000 in
set_option maxRecDepth 100000 in
theorem cM_setLength (l : Launch) (D : va_G) (g : Nat → Nat) (k : Nat → ClassId) (p : Nat) (a b ln lf nr : Nat → Nat) (x z : Int32) (hg : sw_XD g) : Met l yX1_setLength (ws_ yX1_setLength cX1_setLength 3 (some .boolean)) (sw_rm 1) (va_Pc [.ref (g 0), .int (x), .int (z)] (fun U => sw_MP D g k p a b ln lf nr U.heap ∧ sw_MK D k U)) (va_Qi (fun r (u : Nat → Nat) => r = nI (Bool.toNat (sw_has p x && sw_inb z 21)) ∧ u = sw_stl p ln x z) (fun (u : Nat → Nat) t => (fun (u : Nat → Nat) (H : Heap) => sw_MP D g k p a b u lf nr H) u t.heap) (sw_XA g)) 0 0 (sw_XA g) := by
  refine so_wz (own := RX1) (Bw := fun (u : Nat → Nat) (H : Heap) => sw_MP D g k p a b u lf nr H) (by decide) rfl (Nat.le_of_ble_eq_true rfl) (fun v u h => ⟨_, h.1⟩) (fun P e R s m args bl mt c Q ls S hR hL hB hl hret => ?_)
  obtain ⟨hP, hK⟩ := hB
  obtain ⟨hx, hb, hml, hown, hts⟩ := id S
  have hl : lv_has ls 3 [(0, .ref (g 0)), (1, .int (x)), (2, .int (z))] := hl
  have hS : va_S (sw_XA g) s.heap s.heap [] := va_S.rf
  obtain ⟨H, hH⟩ : ∃ H, H = s.heap := ⟨_, rfl⟩
  obtain ⟨locs, hlo⟩ : ∃ L : List Loc, L = [] := ⟨_, rfl⟩
  have hP : sw_MP D g k p a b ln lf nr H := by rw [hH]; exact hP
  have hS : va_S (sw_XA g) s.heap H locs := by rw [hH, hlo]; exact hS
  have hgo : W P l e R s m args bl mt c H locs 0 0 Q (F0 m 0 ls []) := by
    refine lv_aload_n hx hb dX1_setLength_0 rfl (lv_at hl 0 rfl) ?_
    refine lv_iload_n hx hb dX1_setLength_1 rfl (lv_at hl 1 rfl) ?_
    refine mc_ro (As := [.int (x)]) (n := 1) S (cM_street l D g k p a b ln lf nr x) (lw_V q195 q197 qs11 q22 q198) hdX1_street (by omega) (by omega) (by decide) (Nat.zero_le _) (Nat.zero_le _) hK hP rfl hl.1 (Nat.le_of_ble_eq_true rfl) dX1_setLength_2 rfl (fun r hq => ?_)
    subst hq
    refine sr_bf (tgt := 18) hx hb dX1_setLength_5 (by decide) (fun c5 => ?_) (fun c5 => ?_)
    · refine lv_iconst (v := nI 0) hx hb dX1_setLength_18 (by decide) ?_
      exact hret _ _ _ ln _ _ dX1_setLength_19 ⟨by rw [c5, Bool.false_and]; rfl, by unfold sw_stl; rw [c5, Bool.false_and]; rfl⟩ hP hS
    · refine lv_iload_n hx hb dX1_setLength_8 rfl (lv_at hl 2 rfl) ?_
      refine lv_if_lt (tgt := 18) hx hb dX1_setLength_9 (by decide) (fun c9 => ?_) (fun c9 => ?_)
      · refine lv_iconst (v := nI 0) hx hb dX1_setLength_18 (by decide) ?_
        exact hret _ _ _ ln _ _ dX1_setLength_19 ⟨by rw [sn_in_neg c9, Bool.and_false]; rfl, by unfold sw_stl; rw [sn_in_neg c9, Bool.and_false]; rfl⟩ hP hS
      · refine lv_iload_n hx hb dX1_setLength_12 rfl (lv_at hl 2 rfl) ?_
        refine lv_bipush (v := nI 20) hx hb dX1_setLength_13 (by decide) ?_
        refine lv_icmp_le (tgt := 20) hx hb dX1_setLength_15 (by decide) (fun c15 => ?_) (fun c15 => ?_)
        · have hok : (sw_has p x && sw_inb z 21) = true := by rw [c5, sn_in_21 c9 c15]; rfl
          obtain ⟨s0, hs0, rfl, hps⟩ := sn_has_t c5
          obtain ⟨z0, hz0, rfl⟩ := sn_in_t (by decide) (sn_in_21 c9 c15)
          refine lv_aload_n hx hb dX1_setLength_20 rfl (lv_at hl 0 rfl) ?_
          refine mg4 hx hb hts hown hK hP dX1_setLength_21 ?_
          refine lv_iload_n hx hb dX1_setLength_24 rfl (lv_at hl 1 rfl) ?_
          refine lv_iload_n hx hb dX1_setLength_25 rfl (lv_at hl 2 rfl) ?_
          refine ms4 hx hb hK hP hg hS (by omega) dX1_setLength_26 (fun H locs hP hS => ?_)
          refine lv_iconst (v := nI 1) hx hb dX1_setLength_27 (by decide) ?_
          exact hret _ _ _ (va_up ln (s0) (z0)) _ _ dX1_setLength_28 ⟨by rw [hok]; rfl, by unfold sw_stl; rw [hok, nI_clamp (by omega), nI_clamp (by omega)]; rfl⟩ hP hS
        · refine lv_iconst (v := nI 0) hx hb dX1_setLength_18 (by decide) ?_
          exact hret _ _ _ ln _ _ dX1_setLength_19 ⟨by rw [sn_in_21f c15, Bool.and_false]; rfl, by unfold sw_stl; rw [sn_in_21f c15, Bool.and_false]; rfl⟩ hP hS
  rw [hH, hlo] at hgo
  exact hgo
theorem hdX1_setLength : yX1_setLength.cls = RX1 ∧ yX1_setLength.cls ≠ "java/lang/invoke/MethodHandle" ∧ yX1_setLength.cls ≠ "java/lang/invoke/VarHandle" ∧ (parseMethodDescriptor yX1_setLength.desc).map (fun d => d.parameters.length) = some 2 := by decide +kernel
end
section
/-! PLAIN LAWS: both sides answer alike; what stays true of the streets -/
/-- the streets as they may be -/
def sw_ok (p : Nat) (a b ln : Nat → Nat) : Prop := p < 1024 ∧ sw_rng a b ln ∧ ∀ s, s < 10 → p.testBit s = true → a s ≠ b s
theorem sw_ok_0 : sw_ok 0 (fun _ => 0) (fun _ => 0) (fun _ => 0) := ⟨by decide, fun s _ => ⟨show 0 < 6 by decide, show 0 < 6 by decide, show 0 ≤ 20 by decide⟩, fun s _ h => by simp at h⟩
theorem sw_ok_bld {p : Nat} {a b ln : Nat → Nat} {x y z r : Int32} {u : Nat × (Nat → Nat) × (Nat → Nat) × (Nat → Nat)} (h : sw_ok p a b ln) (e : (r, u) = sw_bld p a b ln x y z) : sw_ok u.1 u.2.1 u.2.2.1 u.2.2.2 := by
  by_cases hc : x ≠ y ∧ sw_inb x 6 = true ∧ sw_inb y 6 = true ∧ sw_inb z 21 = true
  · cases hn : sw_nx (fun s => !p.testBit s) 10 0 with
    | none =>
      rw [sw_bld_full hc hn] at e
      rw [(Prod.mk.inj e).2]
      exact h
    | some s =>
      rw [sw_bld_some hc hn] at e
      rw [(Prod.mk.inj e).2]
      obtain ⟨h1, h2, h3⟩ := h
      obtain ⟨c1, c2, c3, c4⟩ := hc
      obtain ⟨x0, hx, rfl⟩ := sn_in_t (by decide) c2
      obtain ⟨y0, hy, rfl⟩ := sn_in_t (by decide) c3
      obtain ⟨z0, hz, rfl⟩ := sn_in_t (by decide) c4
      have hs := sw_nx_some 10 0 s hn
      have hs10 : s < 10 := by omega
      have hxy : x0 ≠ y0 := fun q => c1 (by rw [q])
      rw [nI_clamp (by omega), nI_clamp (by omega), nI_clamp (by omega)]
      refine ⟨Nat.or_lt_two_pow (n := 10) h1 (sw_p1024 hs10), fun t ht => ?_, fun t ht hb => ?_⟩
      · obtain ⟨q1, q2, q3⟩ := h2 t ht
        show va_up a s x0 t < 6 ∧ va_up b s y0 t < 6 ∧ va_up ln s z0 t ≤ 20
        unfold va_up
        split
        · exact ⟨hx, hy, by omega⟩
        · exact ⟨q1, q2, q3⟩
      · show va_up a s x0 t ≠ va_up b s y0 t
        have hb : (p ||| 2 ^ s).testBit t = true := hb
        unfold va_up
        by_cases e2 : t = s
        · rw [if_pos e2, if_pos e2]
          exact hxy
        · rw [if_neg e2, if_neg e2]
          rw [Nat.testBit_or, Nat.testBit_two_pow_of_ne (fun q => e2 q.symm), Bool.or_false] at hb
          exact h3 t ht hb
  · rw [sw_bld_no hc] at e
    rw [(Prod.mk.inj e).2]
    exact h
theorem sw_ok_cls {p : Nat} {a b ln : Nat → Nat} (x : Int32) (h : sw_ok p a b ln) : sw_ok (sw_cls p x) a b ln := by
  unfold sw_cls
  split
  · exact ⟨sw_an_lt h.1, h.2.1, fun s hs hb => h.2.2 s hs (sw_an_sub _ _ s hb)⟩
  · exact h
theorem sw_ok_stl {p : Nat} {a b ln : Nat → Nat} (x z : Int32) (h : sw_ok p a b ln) : sw_ok p a b (sw_stl p ln x z) := by
  refine ⟨h.1, fun s hs => ?_, h.2.2⟩
  obtain ⟨q1, q2, q3⟩ := h.2.1 s hs
  refine ⟨q1, q2, ?_⟩
  unfold sw_stl
  split
  · rename_i hc
    rw [Bool.and_eq_true] at hc
    obtain ⟨z0, hz, rfl⟩ := sn_in_t (by decide) hc.2
    rw [nI_clamp (by omega)]
    unfold va_up
    split
    · omega
    · exact q3
  · exact q3
theorem sq_con {C : Prop} {r1 r2 : Int32} (h1 : ∃ bb : Bool, r1 = nI bb.toNat ∧ (bb = true ↔ C)) (h2 : ∃ bb : Bool, r2 = nI bb.toNat ∧ (bb = true ↔ C)) : r1 = r2 := by
  obtain ⟨b1, rfl, h1⟩ := h1
  obtain ⟨b2, rfl, h2⟩ := h2
  have e : b1 = b2 := by
    cases b1 <;> cases b2
    · rfl
    · exact absurd (h1.mpr (h2.mp rfl)) (by decide)
    · exact absurd (h2.mpr (h1.mp rfl)) (by decide)
    · rfl
  rw [e]
theorem sq_extra {p : Nat} {a b ln : Nat → Nat} {r1 r2 : Int32} (h : sw_ok p a b ln) (h1 : ∃ v, v ≤ 200000 ∧ sw_min a b ln p (sw_od a b p 10) v ∧ r1 = sw_fv v) (h2 : ∃ B, sw_fi a b ln p 0 0 1024 (some B) ∧ r2 = nI (sw_ln ln B 10)) : r1 = r2 := by
  obtain ⟨v, -, hv, rfl⟩ := h1
  obtain ⟨B, hB, rfl⟩ := h2
  obtain ⟨k1, k2⟩ := sw_ex_eq (fun s hs => (h.2.1 s hs).2.2) h.1 hB hv
  rw [sw_fv_t k1, k2]
theorem sq_best {p : Nat} {a b ln : Nat → Nat} {r1 r2 : Int32} (h : sw_ok p a b ln) (h1 : ∃ B, r1 = nI B ∧ sw_best a b ln p B) (h2 : ∃ B, sw_fi a b ln p 0 0 1024 (some B) ∧ r2 = nI B) : r1 = r2 := by
  obtain ⟨G, rfl, hG⟩ := h1
  obtain ⟨B, hB, rfl⟩ := h2
  rw [sw_best_one h.1 hB hG]
theorem sq_ni {s t : Nat} (h : nI s = nI t) (hs : s < 1024) (ht : t < 1024) : s = t := (nI_eq (by omega) (by omega)).mp h
theorem sq_nohas {p s : Nat} {A : Prop} (hs : s < 10) (hp : p.testBit s = true) (h : sw_has p (nI s) = false) : A := by
  rw [sn_has_nI p hs, hp] at h
  exact absurd h (by decide)
theorem sq_with {p : Nat} {a b ln : Nat → Nat} {x r1 r2 : Int32} (h : sw_ok p a b ln)
    (h1 : (sw_has p x = false ∧ r1 = -1) ∨ ∃ s v, s < 10 ∧ x = nI s ∧ p.testBit s = true ∧ v ≤ 200000 ∧ sw_min a b ln (sw_an p (2 ^ s)) (sw_od a b p 10 ^^^ (2 ^ a s ^^^ 2 ^ b s)) v ∧ r1 = if v < 100000 then nI (v + ln s) else -1)
    (h2 : (sw_has p x = false ∧ r2 = -1) ∨ ∃ s o, s < 10 ∧ x = nI s ∧ p.testBit s = true ∧ sw_fi a b ln p (2 ^ s) 0 1024 o ∧ r2 = sw_ol ln o) : r1 = r2 := by
  rcases h1 with ⟨e1, rfl⟩ | ⟨s, v, s1, rfl, s2, -, hv, rfl⟩
  · rcases h2 with ⟨-, rfl⟩ | ⟨t, o, t1, rfl, t2, -, -⟩
    · rfl
    · exact sq_nohas t1 t2 e1
  · rcases h2 with ⟨e2, -⟩ | ⟨t, o, t1, et, t2, ho, rfl⟩
    · exact sq_nohas s1 s2 e2
    · have e := sq_ni et (by omega) (by omega)
      subst e
      obtain ⟨k1, k2⟩ := sw_exw (fun s hs => (h.2.1 s hs).2.2) h.1 s1 s2 ho hv
      cases o with
      | none =>
        rw [if_neg (k1 rfl)]
        rfl
      | some B =>
        obtain ⟨k3, k4⟩ := k2 B rfl
        rw [if_pos k3, k4]
        rfl
theorem sq_wout {p : Nat} {a b ln : Nat → Nat} {x r1 r2 : Int32} (h : sw_ok p a b ln)
    (h1 : (sw_has p x = false ∧ r1 = -1) ∨ ∃ s v, s < 10 ∧ x = nI s ∧ p.testBit s = true ∧ v ≤ 200000 ∧ sw_min a b ln (sw_an p (2 ^ s)) (sw_od a b p 10) v ∧ r1 = if v < 100000 then nI v else -1)
    (h2 : (sw_has p x = false ∧ r2 = -1) ∨ ∃ s o, s < 10 ∧ x = nI s ∧ p.testBit s = true ∧ sw_fi a b ln p 0 (2 ^ s) 1024 o ∧ r2 = sw_ol ln o) : r1 = r2 := by
  rcases h1 with ⟨e1, rfl⟩ | ⟨s, v, s1, rfl, s2, -, hv, rfl⟩
  · rcases h2 with ⟨-, rfl⟩ | ⟨t, o, t1, rfl, t2, -, -⟩
    · rfl
    · exact sq_nohas t1 t2 e1
  · rcases h2 with ⟨e2, -⟩ | ⟨t, o, t1, et, t2, ho, rfl⟩
    · exact sq_nohas s1 s2 e2
    · have e := sq_ni et (by omega) (by omega)
      subst e
      obtain ⟨k1, k2⟩ := sw_exo (fun s hs => (h.2.1 s hs).2.2) h.1 ho hv
      cases o with
      | none =>
        rw [if_neg (k1 rfl)]
        rfl
      | some B =>
        obtain ⟨k3, k4⟩ := k2 B rfl
        rw [if_pos k3, k4]
        rfl
theorem sq_way {p : Nat} {a b ln : Nat → Nat} {x y r1 r2 : Int32}
    (h1 : ((sw_inb x 6 && sw_inb y 6) = false ∧ r1 = -1) ∨ ∃ i j v, i < 6 ∧ j < 6 ∧ x = nI i ∧ y = nI j ∧ sw_min a b ln p (2 ^ i ^^^ 2 ^ j) v ∧ r1 = sw_fv v)
    (h2 : ((sw_inb x 6 && sw_inb y 6) = false ∧ r2 = -1) ∨ ∃ i j v, i < 6 ∧ j < 6 ∧ x = nI i ∧ y = nI j ∧ sw_min a b ln p (2 ^ i ^^^ 2 ^ j) v ∧ r2 = sw_fv v) : r1 = r2 := by
  have no : ∀ i j : Nat, i < 6 → j < 6 → ¬ (sw_inb (nI i) 6 && sw_inb (nI j) 6) = false := by
    intro i j hi hj q
    rw [sn_in_nI hi (by decide), sn_in_nI hj (by decide)] at q
    exact absurd q (by decide)
  rcases h1 with ⟨e1, rfl⟩ | ⟨i, j, v, i1, j1, rfl, rfl, hv, rfl⟩
  · rcases h2 with ⟨-, rfl⟩ | ⟨i, j, v, i1, j1, rfl, rfl, hv, rfl⟩
    · rfl
    · exact absurd e1 (no i j i1 j1)
  · rcases h2 with ⟨e2, -⟩ | ⟨i', j', v', i2, j2, ei, ej, hv', rfl⟩
    · exact absurd e2 (no i j i1 j1)
    · have e1 := sq_ni ei (by omega) (by omega)
      have e2 := sq_ni ej (by omega) (by omega)
      subst e1
      subst e2
      rcases sw_min_eq hv hv' with ⟨-, e⟩ | ⟨q1, q2⟩
      · rw [e]
      · rw [sw_fv_f q1, sw_fv_f q2]
theorem sq_wl {p : Nat} {a b ln : Nat → Nat} {r1 r2 : Int32} (h : sw_ok p a b ln)
    (h1 : ∃ v, v < 100000 ∧ sw_min a b ln p (sw_od a b p 10) v ∧ ((¬ sw_con a b p ∧ r1 = -1) ∨ (sw_con a b p ∧ r1 = nI (v + sw_ln ln p 10))))
    (h2 : ∃ B, sw_fi a b ln p 0 0 1024 (some B) ∧ ((¬ sw_con a b p ∧ r2 = -1) ∨ (sw_con a b p ∧ r2 = nI (sw_ln ln p 10 + sw_ln ln B 10)))) : r1 = r2 := by
  obtain ⟨v, -, hv, h1⟩ := h1
  obtain ⟨B, hB, h2⟩ := h2
  obtain ⟨-, k2⟩ := sw_ex_eq (fun s hs => (h.2.1 s hs).2.2) h.1 hB hv
  rcases h1 with ⟨n1, rfl⟩ | ⟨c1, rfl⟩ <;> rcases h2 with ⟨n2, rfl⟩ | ⟨c2, rfl⟩
  · rfl
  · exact absurd c2 n1
  · exact absurd c1 n2
  · rw [k2, Nat.add_comm]
theorem sq_wa {p : Nat} {a b ln : Nat → Nat} {x y r1 r2 : Int32} (h : sw_ok p a b ln)
    (h1 : (¬ (sw_inb x 6 = true ∧ sw_inb y 20 = true ∧ sw_con a b p) ∧ r1 = -1) ∨ ∃ c0 k0 B, c0 < 6 ∧ k0 < 20 ∧ x = nI c0 ∧ y = nI k0 ∧ sw_con a b p ∧ sw_best a b ln p B ∧ r1 = sw_ov (sw_wk a b k0 (sw_f0 p B) c0))
    (h2 : (¬ (sw_inb x 6 = true ∧ sw_inb y 20 = true ∧ sw_con a b p) ∧ r2 = -1) ∨ ∃ c0 k0 B, c0 < 6 ∧ k0 < 20 ∧ x = nI c0 ∧ y = nI k0 ∧ sw_con a b p ∧ sw_fi a b ln p 0 0 1024 (some B) ∧ r2 = sw_ov (sw_wk a b k0 (sw_f0 p B) c0)) : r1 = r2 := by
  rcases h1 with ⟨n1, rfl⟩ | ⟨c, k, B, c1, k1, rfl, rfl, hc, hB, rfl⟩
  · rcases h2 with ⟨-, rfl⟩ | ⟨c, k, B, c1, k1, rfl, rfl, hc, hB, rfl⟩
    · rfl
    · exact absurd ⟨sn_in_nI c1 (by decide), sn_in_nI k1 (by decide), hc⟩ n1
  · rcases h2 with ⟨n2, -⟩ | ⟨c', k', B', c2, k2, ec, ek, hc', hB', rfl⟩
    · exact absurd ⟨sn_in_nI c1 (by decide), sn_in_nI k1 (by decide), hc⟩ n2
    · have e1 := sq_ni ec (by omega) (by omega)
      have e2 := sq_ni ek (by omega) (by omega)
      subst e1
      subst e2
      rw [sw_best_one h.1 hB' hB]
end
section
/-! CONTRACTS: the two constructors -/
theorem sw_xD_inv {A : Nat → Prop} {g : Nat → Nat} {k : Nat → ClassId} {p : Nat} {a b ln w pg lf : Nat → Nat} (h : va_D A (sw_xw g k p a b ln w pg lf)) : sw_XD g ∧ ∀ i, i < 7 → A (g i) := by
  have key : ∀ i, i < 7 → ∃ x, (sw_xw g k p a b ln w pg lf)[i]? = some (g i, x) := by
    intro i hi
    match i, hi with
    | 0, _ => exact ⟨_, rfl⟩
    | 1, _ => exact ⟨_, rfl⟩
    | 2, _ => exact ⟨_, rfl⟩
    | 3, _ => exact ⟨_, rfl⟩
    | 4, _ => exact ⟨_, rfl⟩
    | 5, _ => exact ⟨_, rfl⟩
    | 6, _ => exact ⟨_, rfl⟩
    | n + 7, hi => omega
  refine ⟨fun i j hi hj e => ?_, fun i hi => ?_⟩
  · obtain ⟨x, hx⟩ := key i hi
    obtain ⟨y, hy⟩ := key j hj
    exact h.1 i j _ _ hx hy e
  · obtain ⟨x, hx⟩ := key i hi
    exact h.2 i _ hx
theorem sw_mD_inv {A : Nat → Prop} {g : Nat → Nat} {k : Nat → ClassId} {p : Nat} {a b ln lf nr : Nat → Nat} (h : va_D A (sw_mw g k p a b ln lf nr)) : sw_XD g ∧ ∀ i, i < 7 → A (g i) := by
  have key : ∀ i, i < 7 → ∃ x, (sw_mw g k p a b ln lf nr)[i]? = some (g i, x) := by
    intro i hi
    match i, hi with
    | 0, _ => exact ⟨_, rfl⟩
    | 1, _ => exact ⟨_, rfl⟩
    | 2, _ => exact ⟨_, rfl⟩
    | 3, _ => exact ⟨_, rfl⟩
    | 4, _ => exact ⟨_, rfl⟩
    | 5, _ => exact ⟨_, rfl⟩
    | 6, _ => exact ⟨_, rfl⟩
    | n + 7, hi => omega
  refine ⟨fun i j hi hj e => ?_, fun i hi => ?_⟩
  · obtain ⟨x, hx⟩ := key i hi
    obtain ⟨y, hy⟩ := key j hj
    exact h.1 i j _ _ hx hy e
  · obtain ⟨x, hx⟩ := key i hi
    exact h.2 i _ hx
theorem sn_bf0 : sw_bf 0 = fun _ => 0 := by
  funext j
  simp [sw_bf]
def sw_g7 (q0 q1 q2 q3 q4 q5 q6 : Nat) : Nat → Nat := fun i => match i with
  | 0 => q0 | 1 => q1 | 2 => q2 | 3 => q3 | 4 => q4 | 5 => q5 | _ => q6
def sw_k7 (k1 k2 k3 k4 k5 k6 : ClassId) : Nat → ClassId := fun i => match i with
  | 0 => k1 | 1 => k1 | 2 => k2 | 3 => k3 | 4 => k4 | 5 => k5 | _ => k6
set_option maxHeartbeats 4000000 in
set_option maxRecDepth 100000 in
theorem cX_init (l : Launch) (D : va_G) (q sz : Nat) : Met l yX0_init (ws_ yX0_init cX0_init 1 none) ({ frames := 1, cells := 6, slots := 140, locals := 12 }) (va_Pc [.ref q] (fun U => U.heap.size = sz ∧ va_P D sw_cl [(q, .inr (0, [.int (nI 0), .null, .null, .null, .null, .null, .null]))] U.heap ∧ va_K D sw_cl [] U ∧ va_D (fun _ => True) [(q, .inr (0, [.int (nI 0), .null, .null, .null, .null, .null, .null]))])) (va_Qv (fun (_ : Unit) => True) (fun _ t => ∃ (g : Nat → Nat) (k : Nat → ClassId), g 0 = q ∧ va_K D sw_cl (sw_xt k) t ∧ va_P D sw_cl (sw_xw g k 0 (fun _ => 0) (fun _ => 0) (fun _ => 0) (fun _ => 0) (fun _ => 0) (fun _ => 0)) t.heap ∧ va_D (va_A [(q, .inr (0, [.int (nI 0), .null, .null, .null, .null, .null, .null]))] sz) (sw_xw g k 0 (fun _ => 0) (fun _ => 0) (fun _ => 0) (fun _ => 0) (fun _ => 0) (fun _ => 0))) (va_A [(q, .inr (0, [.int (nI 0), .null, .null, .null, .null, .null, .null]))] sz)) 6 140 (va_A [(q, .inr (0, [.int (nI 0), .null, .null, .null, .null, .null, .null]))] sz) := by
  refine Met.ofW (cc := cX0_init) (maxL := 1) (ret := none) (by decide) rfl ?_
  intro p e s m args below meth c s₁ B hml hv
  obtain ⟨rfl, hsz, hP, hK, hD0⟩ := hv
  have hx := B.exec
  have hb := B.bytes
  have hr := B.returns
  have hts := atoms_spec (ws := ws_ yX0_init cX0_init 1 none) B.pre
  have hts : ∀ w ∈ lw_all, w.before _ s = true := fun w h => hts w (List.mem_cons_of_mem _ h)
  have hown : s.vm.findClass RX0 = some m.cls := findClass_of_methodNamed B.named
  have hlocks := B.notSynchronized
  have hin : meth.name = "<init>" := (name_of_methodNamed B.named B.method).1
  subst hsz
  have hD := hD0.self (sz := s.heap.size)
  generalize hAe : va_A [(q, .inr (0, [.int (nI 0), .null, .null, .null, .null, .null, .null]))] s.heap.size = A at hD ⊢
  have hA : ∀ q : Nat, s.heap.size ≤ q → A q := fun q h => by rw [← hAe]; exact Or.inr h
  have hS : va_S A s.heap s.heap [] := va_S.rf
  have hl := lv_entry ([.ref q]) (n := 1) (Nat.le_of_ble_eq_true rfl)
  rw [lg_entry_eq]
  generalize (lg_sl ([.ref q]) ++ List.replicate (1 - (lg_sl ([.ref q])).length) Slot.unset).toArray = ls at hl ⊢
  have hl : lv_has ls 1 [(0, .ref q)] := hl
  refine lv_aload_n hx hb dX0_init_0 rfl (lv_at hl 0 rfl) ?_
  refine W.objInit hx hb hown (hts _ q28) (hts _ q29) (hts _ q30) rfl (by rw [hml]; exact hl.1) rfl dX0_init_1 (Nat.le_of_ble_eq_true rfl) (Nat.le_of_ble_eq_true rfl) ?_
  refine W.eq (g2 := F0 m 4 ls []) rfl ?_
  refine lv_aload_n hx hb dX0_init_4 rfl (lv_at hl 0 rfl) ?_
  refine lv_bipush (v := nI 10) hx hb dX0_init_5 (by decide) ?_
  refine va_newa (D := D) (atype := .byte) (ty := .byte) (a0 := (10, .inl (sw_A (fun _ => 0)))) hx hb (hts _ q53) rfl hK hP hD hS hA (fun _ => rfl) (by decide) (by decide) (by decide) (Nat.le_of_ble_eq_true rfl) (Nat.le_of_ble_eq_true rfl) dX0_init_7 (fun q1 k1 H hK hP hD hS => ?_)
  have hP : va_P D sw_cl [(q, .inr (0, [.int (nI 0), .null, .null, .null, .null, .null, .null])), (q1, .inl (k1, 10, .inl (sw_A (fun _ => 0))))] H := hP
  have hD : va_D A [(q, .inr (0, [.int (nI 0), .null, .null, .null, .null, .null, .null])), (q1, .inl (k1, 10, .inl (sw_A (fun _ => 0))))] := hD
  have hK : va_K D sw_cl [(k1, .byte)] s := hK
  refine va_putF (D := D) (ci := 0) (v := .ref q1) (ty := .array .byte) (C := RX0) (T := TX0) (N := 7) hx hb hts in_X0 tyX0 tyX0_ok nmX0 hown hK hP hD hS 0 rfl rfl 1 (by decide) (hts _ q32) (fun _ h9 => h9) rfl hin rfl (by decide +kernel) rfl rfl (Nat.le_of_ble_eq_true rfl) dX0_init_9 (fun H locs hP hD hS => ?_)
  have hP : va_P D sw_cl [(q, .inr (0, [.int (nI 0), .ref q1, .null, .null, .null, .null, .null])), (q1, .inl (k1, 10, .inl (sw_A (fun _ => 0))))] H := hP
  have hD : va_D A [(q, .inr (0, [.int (nI 0), .ref q1, .null, .null, .null, .null, .null])), (q1, .inl (k1, 10, .inl (sw_A (fun _ => 0))))] := hD
  refine lv_aload_n hx hb dX0_init_12 rfl (lv_at hl 0 rfl) ?_
  refine lv_bipush (v := nI 10) hx hb dX0_init_13 (by decide) ?_
  refine va_newa (D := D) (atype := .byte) (ty := .byte) (a0 := (10, .inl (sw_A (fun _ => 0)))) hx hb (hts _ q53) rfl hK hP hD hS hA (fun _ => rfl) (by decide) (by decide) (by decide) (Nat.le_of_ble_eq_true rfl) (Nat.le_of_ble_eq_true rfl) dX0_init_15 (fun q2 k2 H hK hP hD hS => ?_)
  have hP : va_P D sw_cl [(q, .inr (0, [.int (nI 0), .ref q1, .null, .null, .null, .null, .null])), (q1, .inl (k1, 10, .inl (sw_A (fun _ => 0)))), (q2, .inl (k2, 10, .inl (sw_A (fun _ => 0))))] H := hP
  have hD : va_D A [(q, .inr (0, [.int (nI 0), .ref q1, .null, .null, .null, .null, .null])), (q1, .inl (k1, 10, .inl (sw_A (fun _ => 0)))), (q2, .inl (k2, 10, .inl (sw_A (fun _ => 0))))] := hD
  have hK : va_K D sw_cl [(k1, .byte), (k2, .byte)] s := hK
  refine va_putF (D := D) (ci := 0) (v := .ref q2) (ty := .array .byte) (C := RX0) (T := TX0) (N := 7) hx hb hts in_X0 tyX0 tyX0_ok nmX0 hown hK hP hD hS 0 rfl rfl 2 (by decide) (hts _ q33) (fun _ h9 => h9) rfl hin rfl (by decide +kernel) rfl rfl (Nat.le_of_ble_eq_true rfl) dX0_init_17 (fun H locs hP hD hS => ?_)
  have hP : va_P D sw_cl [(q, .inr (0, [.int (nI 0), .ref q1, .ref q2, .null, .null, .null, .null])), (q1, .inl (k1, 10, .inl (sw_A (fun _ => 0)))), (q2, .inl (k2, 10, .inl (sw_A (fun _ => 0))))] H := hP
  have hD : va_D A [(q, .inr (0, [.int (nI 0), .ref q1, .ref q2, .null, .null, .null, .null])), (q1, .inl (k1, 10, .inl (sw_A (fun _ => 0)))), (q2, .inl (k2, 10, .inl (sw_A (fun _ => 0))))] := hD
  refine lv_aload_n hx hb dX0_init_20 rfl (lv_at hl 0 rfl) ?_
  refine lv_bipush (v := nI 10) hx hb dX0_init_21 (by decide) ?_
  refine va_newa (D := D) (atype := .byte) (ty := .byte) (a0 := (10, .inl (sw_A (fun _ => 0)))) hx hb (hts _ q53) rfl hK hP hD hS hA (fun _ => rfl) (by decide) (by decide) (by decide) (Nat.le_of_ble_eq_true rfl) (Nat.le_of_ble_eq_true rfl) dX0_init_23 (fun q3 k3 H hK hP hD hS => ?_)
  have hP : va_P D sw_cl [(q, .inr (0, [.int (nI 0), .ref q1, .ref q2, .null, .null, .null, .null])), (q1, .inl (k1, 10, .inl (sw_A (fun _ => 0)))), (q2, .inl (k2, 10, .inl (sw_A (fun _ => 0)))), (q3, .inl (k3, 10, .inl (sw_A (fun _ => 0))))] H := hP
  have hD : va_D A [(q, .inr (0, [.int (nI 0), .ref q1, .ref q2, .null, .null, .null, .null])), (q1, .inl (k1, 10, .inl (sw_A (fun _ => 0)))), (q2, .inl (k2, 10, .inl (sw_A (fun _ => 0)))), (q3, .inl (k3, 10, .inl (sw_A (fun _ => 0))))] := hD
  have hK : va_K D sw_cl [(k1, .byte), (k2, .byte), (k3, .byte)] s := hK
  refine va_putF (D := D) (ci := 0) (v := .ref q3) (ty := .array .byte) (C := RX0) (T := TX0) (N := 7) hx hb hts in_X0 tyX0 tyX0_ok nmX0 hown hK hP hD hS 0 rfl rfl 3 (by decide) (hts _ q34) (fun _ h9 => h9) rfl hin rfl (by decide +kernel) rfl rfl (Nat.le_of_ble_eq_true rfl) dX0_init_25 (fun H locs hP hD hS => ?_)
  have hP : va_P D sw_cl [(q, .inr (0, [.int (nI 0), .ref q1, .ref q2, .ref q3, .null, .null, .null])), (q1, .inl (k1, 10, .inl (sw_A (fun _ => 0)))), (q2, .inl (k2, 10, .inl (sw_A (fun _ => 0)))), (q3, .inl (k3, 10, .inl (sw_A (fun _ => 0))))] H := hP
  have hD : va_D A [(q, .inr (0, [.int (nI 0), .ref q1, .ref q2, .ref q3, .null, .null, .null])), (q1, .inl (k1, 10, .inl (sw_A (fun _ => 0)))), (q2, .inl (k2, 10, .inl (sw_A (fun _ => 0)))), (q3, .inl (k3, 10, .inl (sw_A (fun _ => 0))))] := hD
  refine lv_aload_n hx hb dX0_init_28 rfl (lv_at hl 0 rfl) ?_
  refine lv_bipush (v := nI 36) hx hb dX0_init_29 (by decide) ?_
  refine va_newa (D := D) (atype := .int) (ty := .int) (a0 := (36, .inl (sw_A (fun _ => 0)))) hx hb (hts _ q54) rfl hK hP hD hS hA (fun _ => rfl) (by decide) (by decide) (by decide) (Nat.le_of_ble_eq_true rfl) (Nat.le_of_ble_eq_true rfl) dX0_init_31 (fun q4 k4 H hK hP hD hS => ?_)
  have hP : va_P D sw_cl [(q, .inr (0, [.int (nI 0), .ref q1, .ref q2, .ref q3, .null, .null, .null])), (q1, .inl (k1, 10, .inl (sw_A (fun _ => 0)))), (q2, .inl (k2, 10, .inl (sw_A (fun _ => 0)))), (q3, .inl (k3, 10, .inl (sw_A (fun _ => 0)))), (q4, .inl (k4, 36, .inl (sw_A (fun _ => 0))))] H := hP
  have hD : va_D A [(q, .inr (0, [.int (nI 0), .ref q1, .ref q2, .ref q3, .null, .null, .null])), (q1, .inl (k1, 10, .inl (sw_A (fun _ => 0)))), (q2, .inl (k2, 10, .inl (sw_A (fun _ => 0)))), (q3, .inl (k3, 10, .inl (sw_A (fun _ => 0)))), (q4, .inl (k4, 36, .inl (sw_A (fun _ => 0))))] := hD
  have hK : va_K D sw_cl [(k1, .byte), (k2, .byte), (k3, .byte), (k4, .int)] s := hK
  refine va_putF (D := D) (ci := 0) (v := .ref q4) (ty := .array .int) (C := RX0) (T := TX0) (N := 7) hx hb hts in_X0 tyX0 tyX0_ok nmX0 hown hK hP hD hS 0 rfl rfl 4 (by decide) (hts _ q35) (fun _ h9 => h9) rfl hin rfl (by decide +kernel) rfl rfl (Nat.le_of_ble_eq_true rfl) dX0_init_33 (fun H locs hP hD hS => ?_)
  have hP : va_P D sw_cl [(q, .inr (0, [.int (nI 0), .ref q1, .ref q2, .ref q3, .ref q4, .null, .null])), (q1, .inl (k1, 10, .inl (sw_A (fun _ => 0)))), (q2, .inl (k2, 10, .inl (sw_A (fun _ => 0)))), (q3, .inl (k3, 10, .inl (sw_A (fun _ => 0)))), (q4, .inl (k4, 36, .inl (sw_A (fun _ => 0))))] H := hP
  have hD : va_D A [(q, .inr (0, [.int (nI 0), .ref q1, .ref q2, .ref q3, .ref q4, .null, .null])), (q1, .inl (k1, 10, .inl (sw_A (fun _ => 0)))), (q2, .inl (k2, 10, .inl (sw_A (fun _ => 0)))), (q3, .inl (k3, 10, .inl (sw_A (fun _ => 0)))), (q4, .inl (k4, 36, .inl (sw_A (fun _ => 0))))] := hD
  refine lv_aload_n hx hb dX0_init_36 rfl (lv_at hl 0 rfl) ?_
  refine lv_bipush (v := nI 64) hx hb dX0_init_37 (by decide) ?_
  refine va_newa (D := D) (atype := .int) (ty := .int) (a0 := (64, .inl (sw_A (fun _ => 0)))) hx hb (hts _ q54) rfl hK hP hD hS hA (fun _ => rfl) (by decide) (by decide) (by decide) (Nat.le_of_ble_eq_true rfl) (Nat.le_of_ble_eq_true rfl) dX0_init_39 (fun q5 k5 H hK hP hD hS => ?_)
  have hP : va_P D sw_cl [(q, .inr (0, [.int (nI 0), .ref q1, .ref q2, .ref q3, .ref q4, .null, .null])), (q1, .inl (k1, 10, .inl (sw_A (fun _ => 0)))), (q2, .inl (k2, 10, .inl (sw_A (fun _ => 0)))), (q3, .inl (k3, 10, .inl (sw_A (fun _ => 0)))), (q4, .inl (k4, 36, .inl (sw_A (fun _ => 0)))), (q5, .inl (k5, 64, .inl (sw_A (fun _ => 0))))] H := hP
  have hD : va_D A [(q, .inr (0, [.int (nI 0), .ref q1, .ref q2, .ref q3, .ref q4, .null, .null])), (q1, .inl (k1, 10, .inl (sw_A (fun _ => 0)))), (q2, .inl (k2, 10, .inl (sw_A (fun _ => 0)))), (q3, .inl (k3, 10, .inl (sw_A (fun _ => 0)))), (q4, .inl (k4, 36, .inl (sw_A (fun _ => 0)))), (q5, .inl (k5, 64, .inl (sw_A (fun _ => 0))))] := hD
  have hK : va_K D sw_cl [(k1, .byte), (k2, .byte), (k3, .byte), (k4, .int), (k5, .int)] s := hK
  refine va_putF (D := D) (ci := 0) (v := .ref q5) (ty := .array .int) (C := RX0) (T := TX0) (N := 7) hx hb hts in_X0 tyX0 tyX0_ok nmX0 hown hK hP hD hS 0 rfl rfl 5 (by decide) (hts _ q36) (fun _ h9 => h9) rfl hin rfl (by decide +kernel) rfl rfl (Nat.le_of_ble_eq_true rfl) dX0_init_41 (fun H locs hP hD hS => ?_)
  have hP : va_P D sw_cl [(q, .inr (0, [.int (nI 0), .ref q1, .ref q2, .ref q3, .ref q4, .ref q5, .null])), (q1, .inl (k1, 10, .inl (sw_A (fun _ => 0)))), (q2, .inl (k2, 10, .inl (sw_A (fun _ => 0)))), (q3, .inl (k3, 10, .inl (sw_A (fun _ => 0)))), (q4, .inl (k4, 36, .inl (sw_A (fun _ => 0)))), (q5, .inl (k5, 64, .inl (sw_A (fun _ => 0))))] H := hP
  have hD : va_D A [(q, .inr (0, [.int (nI 0), .ref q1, .ref q2, .ref q3, .ref q4, .ref q5, .null])), (q1, .inl (k1, 10, .inl (sw_A (fun _ => 0)))), (q2, .inl (k2, 10, .inl (sw_A (fun _ => 0)))), (q3, .inl (k3, 10, .inl (sw_A (fun _ => 0)))), (q4, .inl (k4, 36, .inl (sw_A (fun _ => 0)))), (q5, .inl (k5, 64, .inl (sw_A (fun _ => 0))))] := hD
  refine lv_aload_n hx hb dX0_init_44 rfl (lv_at hl 0 rfl) ?_
  refine lv_bipush (v := nI 10) hx hb dX0_init_45 (by decide) ?_
  refine va_newa (D := D) (atype := .byte) (ty := .byte) (a0 := (10, .inl (sw_A (fun _ => 0)))) hx hb (hts _ q53) rfl hK hP hD hS hA (fun _ => rfl) (by decide) (by decide) (by decide) (Nat.le_of_ble_eq_true rfl) (Nat.le_of_ble_eq_true rfl) dX0_init_47 (fun q6 k6 H hK hP hD hS => ?_)
  have hP : va_P D sw_cl [(q, .inr (0, [.int (nI 0), .ref q1, .ref q2, .ref q3, .ref q4, .ref q5, .null])), (q1, .inl (k1, 10, .inl (sw_A (fun _ => 0)))), (q2, .inl (k2, 10, .inl (sw_A (fun _ => 0)))), (q3, .inl (k3, 10, .inl (sw_A (fun _ => 0)))), (q4, .inl (k4, 36, .inl (sw_A (fun _ => 0)))), (q5, .inl (k5, 64, .inl (sw_A (fun _ => 0)))), (q6, .inl (k6, 10, .inl (sw_A (fun _ => 0))))] H := hP
  have hD : va_D A [(q, .inr (0, [.int (nI 0), .ref q1, .ref q2, .ref q3, .ref q4, .ref q5, .null])), (q1, .inl (k1, 10, .inl (sw_A (fun _ => 0)))), (q2, .inl (k2, 10, .inl (sw_A (fun _ => 0)))), (q3, .inl (k3, 10, .inl (sw_A (fun _ => 0)))), (q4, .inl (k4, 36, .inl (sw_A (fun _ => 0)))), (q5, .inl (k5, 64, .inl (sw_A (fun _ => 0)))), (q6, .inl (k6, 10, .inl (sw_A (fun _ => 0))))] := hD
  have hK : va_K D sw_cl [(k1, .byte), (k2, .byte), (k3, .byte), (k4, .int), (k5, .int), (k6, .byte)] s := hK
  refine va_putF (D := D) (ci := 0) (v := .ref q6) (ty := .array .byte) (C := RX0) (T := TX0) (N := 7) hx hb hts in_X0 tyX0 tyX0_ok nmX0 hown hK hP hD hS 0 rfl rfl 6 (by decide) (hts _ q37) (fun _ h9 => h9) rfl hin rfl (by decide +kernel) rfl rfl (Nat.le_of_ble_eq_true rfl) dX0_init_49 (fun H locs hP hD hS => ?_)
  have hP : va_P D sw_cl [(q, .inr (0, [.int (nI 0), .ref q1, .ref q2, .ref q3, .ref q4, .ref q5, .ref q6])), (q1, .inl (k1, 10, .inl (sw_A (fun _ => 0)))), (q2, .inl (k2, 10, .inl (sw_A (fun _ => 0)))), (q3, .inl (k3, 10, .inl (sw_A (fun _ => 0)))), (q4, .inl (k4, 36, .inl (sw_A (fun _ => 0)))), (q5, .inl (k5, 64, .inl (sw_A (fun _ => 0)))), (q6, .inl (k6, 10, .inl (sw_A (fun _ => 0))))] H := hP
  have hD : va_D A [(q, .inr (0, [.int (nI 0), .ref q1, .ref q2, .ref q3, .ref q4, .ref q5, .ref q6])), (q1, .inl (k1, 10, .inl (sw_A (fun _ => 0)))), (q2, .inl (k2, 10, .inl (sw_A (fun _ => 0)))), (q3, .inl (k3, 10, .inl (sw_A (fun _ => 0)))), (q4, .inl (k4, 36, .inl (sw_A (fun _ => 0)))), (q5, .inl (k5, 64, .inl (sw_A (fun _ => 0)))), (q6, .inl (k6, 10, .inl (sw_A (fun _ => 0))))] := hD
  refine W.widen (k := 6) (n := 140) (by decide) (by decide) ?_
  have hP : va_P D sw_cl (sw_xw (sw_g7 q q1 q2 q3 q4 q5 q6) (sw_k7 k1 k2 k3 k4 k5 k6) 0 (fun _ => 0) (fun _ => 0) (fun _ => 0) (fun _ => 0) (fun _ => 0) (fun _ => 0)) H := hP
  have hD : va_D A (sw_xw (sw_g7 q q1 q2 q3 q4 q5 q6) (sw_k7 k1 k2 k3 k4 k5 k6) 0 (fun _ => 0) (fun _ => 0) (fun _ => 0) (fun _ => 0) (fun _ => 0) (fun _ => 0)) := hD
  have hK : va_K D sw_cl (sw_xt (sw_k7 k1 k2 k3 k4 k5 k6)) s := hK
  exact W.vret hx hb hr (fun t ht hW => ⟨⟨(), rfl, trivial, sw_g7 q q1 q2 q3 q4 q5 q6, sw_k7 k1 k2 k3 k4 k5 k6, rfl, va_K.moved hW.alike hK, by rw [ht]; exact hP, hD⟩, hS.F ht⟩) hS.2.2 dX0_init_52 hlocks
set_option maxHeartbeats 4000000 in
set_option maxRecDepth 100000 in
theorem cM_init (l : Launch) (D : va_G) (q sz : Nat) : Met l yX1_init (ws_ yX1_init cX1_init 1 none) ({ frames := 1, cells := 6, slots := 56, locals := 12 }) (va_Pc [.ref q] (fun U => U.heap.size = sz ∧ va_P D sw_cl [(q, .inr (1, [.null, .null, .null, .null, .null, .null]))] U.heap ∧ va_K D sw_cl [] U ∧ va_D (fun _ => True) [(q, .inr (1, [.null, .null, .null, .null, .null, .null]))])) (va_Qv (fun (_ : Unit) => True) (fun _ t => ∃ (g : Nat → Nat) (k : Nat → ClassId), g 0 = q ∧ va_K D sw_cl (sw_mt k) t ∧ va_P D sw_cl (sw_mw g k 0 (fun _ => 0) (fun _ => 0) (fun _ => 0) (fun _ => 0) (fun _ => 0)) t.heap ∧ va_D (va_A [(q, .inr (1, [.null, .null, .null, .null, .null, .null]))] sz) (sw_mw g k 0 (fun _ => 0) (fun _ => 0) (fun _ => 0) (fun _ => 0) (fun _ => 0))) (va_A [(q, .inr (1, [.null, .null, .null, .null, .null, .null]))] sz)) 6 56 (va_A [(q, .inr (1, [.null, .null, .null, .null, .null, .null]))] sz) := by
  refine Met.ofW (cc := cX1_init) (maxL := 1) (ret := none) (by decide) rfl ?_
  intro p e s m args below meth c s₁ B hml hv
  obtain ⟨rfl, hsz, hP, hK, hD0⟩ := hv
  have hx := B.exec
  have hb := B.bytes
  have hr := B.returns
  have hts := atoms_spec (ws := ws_ yX1_init cX1_init 1 none) B.pre
  have hts : ∀ w ∈ lw_all, w.before _ s = true := fun w h => hts w (List.mem_cons_of_mem _ h)
  have hown : s.vm.findClass RX1 = some m.cls := findClass_of_methodNamed B.named
  have hlocks := B.notSynchronized
  have hin : meth.name = "<init>" := (name_of_methodNamed B.named B.method).1
  subst hsz
  have hD := hD0.self (sz := s.heap.size)
  generalize hAe : va_A [(q, .inr (1, [.null, .null, .null, .null, .null, .null]))] s.heap.size = A at hD ⊢
  have hA : ∀ q : Nat, s.heap.size ≤ q → A q := fun q h => by rw [← hAe]; exact Or.inr h
  have hS : va_S A s.heap s.heap [] := va_S.rf
  have hl := lv_entry ([.ref q]) (n := 1) (Nat.le_of_ble_eq_true rfl)
  rw [lg_entry_eq]
  generalize (lg_sl ([.ref q]) ++ List.replicate (1 - (lg_sl ([.ref q])).length) Slot.unset).toArray = ls at hl ⊢
  have hl : lv_has ls 1 [(0, .ref q)] := hl
  refine lv_aload_n hx hb dX1_init_0 rfl (lv_at hl 0 rfl) ?_
  refine W.objInit hx hb hown (hts _ q162) (hts _ q29) (hts _ q30) rfl (by rw [hml]; exact hl.1) rfl dX1_init_1 (Nat.le_of_ble_eq_true rfl) (Nat.le_of_ble_eq_true rfl) ?_
  refine W.eq (g2 := F0 m 4 ls []) rfl ?_
  refine lv_aload_n hx hb dX1_init_4 rfl (lv_at hl 0 rfl) ?_
  refine lv_bipush (v := nI 10) hx hb dX1_init_5 (by decide) ?_
  refine va_newa (D := D) (atype := .boolean) (ty := .boolean) (a0 := (10, .inl (sw_A (sw_bf 0)))) hx hb (hts _ q182) rfl hK hP hD hS hA (fun _ => by rw [sn_bf0]; rfl) (by decide) (by decide) (by decide) (Nat.le_of_ble_eq_true rfl) (Nat.le_of_ble_eq_true rfl) dX1_init_7 (fun q1 k1 H hK hP hD hS => ?_)
  have hP : va_P D sw_cl [(q, .inr (1, [.null, .null, .null, .null, .null, .null])), (q1, .inl (k1, 10, .inl (sw_A (sw_bf 0))))] H := hP
  have hD : va_D A [(q, .inr (1, [.null, .null, .null, .null, .null, .null])), (q1, .inl (k1, 10, .inl (sw_A (sw_bf 0))))] := hD
  have hK : va_K D sw_cl [(k1, .boolean)] s := hK
  refine va_put (D := D) (ci := 1) (v := .ref q1) (ty := .array .boolean) (C := RX1) (T := TX1) (N := 6) hx hb hts in_X1 tyX1 tyX1_ok nmX1 hown hK hP hD hS 0 rfl rfl 0 (by decide) (hts _ q163) (fun _ h9 => h9) rfl (by decide +kernel) rfl rfl (Nat.le_of_ble_eq_true rfl) dX1_init_9 (fun H locs hP hD hS => ?_)
  have hP : va_P D sw_cl [(q, .inr (1, [.ref q1, .null, .null, .null, .null, .null])), (q1, .inl (k1, 10, .inl (sw_A (sw_bf 0))))] H := hP
  have hD : va_D A [(q, .inr (1, [.ref q1, .null, .null, .null, .null, .null])), (q1, .inl (k1, 10, .inl (sw_A (sw_bf 0))))] := hD
  refine lv_aload_n hx hb dX1_init_12 rfl (lv_at hl 0 rfl) ?_
  refine lv_bipush (v := nI 10) hx hb dX1_init_13 (by decide) ?_
  refine va_newa (D := D) (atype := .int) (ty := .int) (a0 := (10, .inl (sw_A (fun _ => 0)))) hx hb (hts _ q54) rfl hK hP hD hS hA (fun _ => rfl) (by decide) (by decide) (by decide) (Nat.le_of_ble_eq_true rfl) (Nat.le_of_ble_eq_true rfl) dX1_init_15 (fun q2 k2 H hK hP hD hS => ?_)
  have hP : va_P D sw_cl [(q, .inr (1, [.ref q1, .null, .null, .null, .null, .null])), (q1, .inl (k1, 10, .inl (sw_A (sw_bf 0)))), (q2, .inl (k2, 10, .inl (sw_A (fun _ => 0))))] H := hP
  have hD : va_D A [(q, .inr (1, [.ref q1, .null, .null, .null, .null, .null])), (q1, .inl (k1, 10, .inl (sw_A (sw_bf 0)))), (q2, .inl (k2, 10, .inl (sw_A (fun _ => 0))))] := hD
  have hK : va_K D sw_cl [(k1, .boolean), (k2, .int)] s := hK
  refine va_put (D := D) (ci := 1) (v := .ref q2) (ty := .array .int) (C := RX1) (T := TX1) (N := 6) hx hb hts in_X1 tyX1 tyX1_ok nmX1 hown hK hP hD hS 0 rfl rfl 1 (by decide) (hts _ q164) (fun _ h9 => h9) rfl (by decide +kernel) rfl rfl (Nat.le_of_ble_eq_true rfl) dX1_init_17 (fun H locs hP hD hS => ?_)
  have hP : va_P D sw_cl [(q, .inr (1, [.ref q1, .ref q2, .null, .null, .null, .null])), (q1, .inl (k1, 10, .inl (sw_A (sw_bf 0)))), (q2, .inl (k2, 10, .inl (sw_A (fun _ => 0))))] H := hP
  have hD : va_D A [(q, .inr (1, [.ref q1, .ref q2, .null, .null, .null, .null])), (q1, .inl (k1, 10, .inl (sw_A (sw_bf 0)))), (q2, .inl (k2, 10, .inl (sw_A (fun _ => 0))))] := hD
  refine lv_aload_n hx hb dX1_init_20 rfl (lv_at hl 0 rfl) ?_
  refine lv_bipush (v := nI 10) hx hb dX1_init_21 (by decide) ?_
  refine va_newa (D := D) (atype := .int) (ty := .int) (a0 := (10, .inl (sw_A (fun _ => 0)))) hx hb (hts _ q54) rfl hK hP hD hS hA (fun _ => rfl) (by decide) (by decide) (by decide) (Nat.le_of_ble_eq_true rfl) (Nat.le_of_ble_eq_true rfl) dX1_init_23 (fun q3 k3 H hK hP hD hS => ?_)
  have hP : va_P D sw_cl [(q, .inr (1, [.ref q1, .ref q2, .null, .null, .null, .null])), (q1, .inl (k1, 10, .inl (sw_A (sw_bf 0)))), (q2, .inl (k2, 10, .inl (sw_A (fun _ => 0)))), (q3, .inl (k3, 10, .inl (sw_A (fun _ => 0))))] H := hP
  have hD : va_D A [(q, .inr (1, [.ref q1, .ref q2, .null, .null, .null, .null])), (q1, .inl (k1, 10, .inl (sw_A (sw_bf 0)))), (q2, .inl (k2, 10, .inl (sw_A (fun _ => 0)))), (q3, .inl (k3, 10, .inl (sw_A (fun _ => 0))))] := hD
  have hK : va_K D sw_cl [(k1, .boolean), (k2, .int), (k3, .int)] s := hK
  refine va_put (D := D) (ci := 1) (v := .ref q3) (ty := .array .int) (C := RX1) (T := TX1) (N := 6) hx hb hts in_X1 tyX1 tyX1_ok nmX1 hown hK hP hD hS 0 rfl rfl 2 (by decide) (hts _ q165) (fun _ h9 => h9) rfl (by decide +kernel) rfl rfl (Nat.le_of_ble_eq_true rfl) dX1_init_25 (fun H locs hP hD hS => ?_)
  have hP : va_P D sw_cl [(q, .inr (1, [.ref q1, .ref q2, .ref q3, .null, .null, .null])), (q1, .inl (k1, 10, .inl (sw_A (sw_bf 0)))), (q2, .inl (k2, 10, .inl (sw_A (fun _ => 0)))), (q3, .inl (k3, 10, .inl (sw_A (fun _ => 0))))] H := hP
  have hD : va_D A [(q, .inr (1, [.ref q1, .ref q2, .ref q3, .null, .null, .null])), (q1, .inl (k1, 10, .inl (sw_A (sw_bf 0)))), (q2, .inl (k2, 10, .inl (sw_A (fun _ => 0)))), (q3, .inl (k3, 10, .inl (sw_A (fun _ => 0))))] := hD
  refine lv_aload_n hx hb dX1_init_28 rfl (lv_at hl 0 rfl) ?_
  refine lv_bipush (v := nI 10) hx hb dX1_init_29 (by decide) ?_
  refine va_newa (D := D) (atype := .int) (ty := .int) (a0 := (10, .inl (sw_A (fun _ => 0)))) hx hb (hts _ q54) rfl hK hP hD hS hA (fun _ => rfl) (by decide) (by decide) (by decide) (Nat.le_of_ble_eq_true rfl) (Nat.le_of_ble_eq_true rfl) dX1_init_31 (fun q4 k4 H hK hP hD hS => ?_)
  have hP : va_P D sw_cl [(q, .inr (1, [.ref q1, .ref q2, .ref q3, .null, .null, .null])), (q1, .inl (k1, 10, .inl (sw_A (sw_bf 0)))), (q2, .inl (k2, 10, .inl (sw_A (fun _ => 0)))), (q3, .inl (k3, 10, .inl (sw_A (fun _ => 0)))), (q4, .inl (k4, 10, .inl (sw_A (fun _ => 0))))] H := hP
  have hD : va_D A [(q, .inr (1, [.ref q1, .ref q2, .ref q3, .null, .null, .null])), (q1, .inl (k1, 10, .inl (sw_A (sw_bf 0)))), (q2, .inl (k2, 10, .inl (sw_A (fun _ => 0)))), (q3, .inl (k3, 10, .inl (sw_A (fun _ => 0)))), (q4, .inl (k4, 10, .inl (sw_A (fun _ => 0))))] := hD
  have hK : va_K D sw_cl [(k1, .boolean), (k2, .int), (k3, .int), (k4, .int)] s := hK
  refine va_put (D := D) (ci := 1) (v := .ref q4) (ty := .array .int) (C := RX1) (T := TX1) (N := 6) hx hb hts in_X1 tyX1 tyX1_ok nmX1 hown hK hP hD hS 0 rfl rfl 3 (by decide) (hts _ q166) (fun _ h9 => h9) rfl (by decide +kernel) rfl rfl (Nat.le_of_ble_eq_true rfl) dX1_init_33 (fun H locs hP hD hS => ?_)
  have hP : va_P D sw_cl [(q, .inr (1, [.ref q1, .ref q2, .ref q3, .ref q4, .null, .null])), (q1, .inl (k1, 10, .inl (sw_A (sw_bf 0)))), (q2, .inl (k2, 10, .inl (sw_A (fun _ => 0)))), (q3, .inl (k3, 10, .inl (sw_A (fun _ => 0)))), (q4, .inl (k4, 10, .inl (sw_A (fun _ => 0))))] H := hP
  have hD : va_D A [(q, .inr (1, [.ref q1, .ref q2, .ref q3, .ref q4, .null, .null])), (q1, .inl (k1, 10, .inl (sw_A (sw_bf 0)))), (q2, .inl (k2, 10, .inl (sw_A (fun _ => 0)))), (q3, .inl (k3, 10, .inl (sw_A (fun _ => 0)))), (q4, .inl (k4, 10, .inl (sw_A (fun _ => 0))))] := hD
  refine lv_aload_n hx hb dX1_init_36 rfl (lv_at hl 0 rfl) ?_
  refine lv_bipush (v := nI 10) hx hb dX1_init_37 (by decide) ?_
  refine va_newa (D := D) (atype := .int) (ty := .int) (a0 := (10, .inl (sw_A (fun _ => 0)))) hx hb (hts _ q54) rfl hK hP hD hS hA (fun _ => rfl) (by decide) (by decide) (by decide) (Nat.le_of_ble_eq_true rfl) (Nat.le_of_ble_eq_true rfl) dX1_init_39 (fun q5 k5 H hK hP hD hS => ?_)
  have hP : va_P D sw_cl [(q, .inr (1, [.ref q1, .ref q2, .ref q3, .ref q4, .null, .null])), (q1, .inl (k1, 10, .inl (sw_A (sw_bf 0)))), (q2, .inl (k2, 10, .inl (sw_A (fun _ => 0)))), (q3, .inl (k3, 10, .inl (sw_A (fun _ => 0)))), (q4, .inl (k4, 10, .inl (sw_A (fun _ => 0)))), (q5, .inl (k5, 10, .inl (sw_A (fun _ => 0))))] H := hP
  have hD : va_D A [(q, .inr (1, [.ref q1, .ref q2, .ref q3, .ref q4, .null, .null])), (q1, .inl (k1, 10, .inl (sw_A (sw_bf 0)))), (q2, .inl (k2, 10, .inl (sw_A (fun _ => 0)))), (q3, .inl (k3, 10, .inl (sw_A (fun _ => 0)))), (q4, .inl (k4, 10, .inl (sw_A (fun _ => 0)))), (q5, .inl (k5, 10, .inl (sw_A (fun _ => 0))))] := hD
  have hK : va_K D sw_cl [(k1, .boolean), (k2, .int), (k3, .int), (k4, .int), (k5, .int)] s := hK
  refine va_put (D := D) (ci := 1) (v := .ref q5) (ty := .array .int) (C := RX1) (T := TX1) (N := 6) hx hb hts in_X1 tyX1 tyX1_ok nmX1 hown hK hP hD hS 0 rfl rfl 4 (by decide) (hts _ q167) (fun _ h9 => h9) rfl (by decide +kernel) rfl rfl (Nat.le_of_ble_eq_true rfl) dX1_init_41 (fun H locs hP hD hS => ?_)
  have hP : va_P D sw_cl [(q, .inr (1, [.ref q1, .ref q2, .ref q3, .ref q4, .ref q5, .null])), (q1, .inl (k1, 10, .inl (sw_A (sw_bf 0)))), (q2, .inl (k2, 10, .inl (sw_A (fun _ => 0)))), (q3, .inl (k3, 10, .inl (sw_A (fun _ => 0)))), (q4, .inl (k4, 10, .inl (sw_A (fun _ => 0)))), (q5, .inl (k5, 10, .inl (sw_A (fun _ => 0))))] H := hP
  have hD : va_D A [(q, .inr (1, [.ref q1, .ref q2, .ref q3, .ref q4, .ref q5, .null])), (q1, .inl (k1, 10, .inl (sw_A (sw_bf 0)))), (q2, .inl (k2, 10, .inl (sw_A (fun _ => 0)))), (q3, .inl (k3, 10, .inl (sw_A (fun _ => 0)))), (q4, .inl (k4, 10, .inl (sw_A (fun _ => 0)))), (q5, .inl (k5, 10, .inl (sw_A (fun _ => 0))))] := hD
  refine lv_aload_n hx hb dX1_init_44 rfl (lv_at hl 0 rfl) ?_
  refine lv_bipush (v := nI 6) hx hb dX1_init_45 (by decide) ?_
  refine va_newa (D := D) (atype := .int) (ty := .int) (a0 := (6, .inl (sw_A (fun _ => 0)))) hx hb (hts _ q54) rfl hK hP hD hS hA (fun _ => rfl) (by decide) (by decide) (by decide) (Nat.le_of_ble_eq_true rfl) (Nat.le_of_ble_eq_true rfl) dX1_init_47 (fun q6 k6 H hK hP hD hS => ?_)
  have hP : va_P D sw_cl [(q, .inr (1, [.ref q1, .ref q2, .ref q3, .ref q4, .ref q5, .null])), (q1, .inl (k1, 10, .inl (sw_A (sw_bf 0)))), (q2, .inl (k2, 10, .inl (sw_A (fun _ => 0)))), (q3, .inl (k3, 10, .inl (sw_A (fun _ => 0)))), (q4, .inl (k4, 10, .inl (sw_A (fun _ => 0)))), (q5, .inl (k5, 10, .inl (sw_A (fun _ => 0)))), (q6, .inl (k6, 6, .inl (sw_A (fun _ => 0))))] H := hP
  have hD : va_D A [(q, .inr (1, [.ref q1, .ref q2, .ref q3, .ref q4, .ref q5, .null])), (q1, .inl (k1, 10, .inl (sw_A (sw_bf 0)))), (q2, .inl (k2, 10, .inl (sw_A (fun _ => 0)))), (q3, .inl (k3, 10, .inl (sw_A (fun _ => 0)))), (q4, .inl (k4, 10, .inl (sw_A (fun _ => 0)))), (q5, .inl (k5, 10, .inl (sw_A (fun _ => 0)))), (q6, .inl (k6, 6, .inl (sw_A (fun _ => 0))))] := hD
  have hK : va_K D sw_cl [(k1, .boolean), (k2, .int), (k3, .int), (k4, .int), (k5, .int), (k6, .int)] s := hK
  refine va_put (D := D) (ci := 1) (v := .ref q6) (ty := .array .int) (C := RX1) (T := TX1) (N := 6) hx hb hts in_X1 tyX1 tyX1_ok nmX1 hown hK hP hD hS 0 rfl rfl 5 (by decide) (hts _ q168) (fun _ h9 => h9) rfl (by decide +kernel) rfl rfl (Nat.le_of_ble_eq_true rfl) dX1_init_49 (fun H locs hP hD hS => ?_)
  have hP : va_P D sw_cl [(q, .inr (1, [.ref q1, .ref q2, .ref q3, .ref q4, .ref q5, .ref q6])), (q1, .inl (k1, 10, .inl (sw_A (sw_bf 0)))), (q2, .inl (k2, 10, .inl (sw_A (fun _ => 0)))), (q3, .inl (k3, 10, .inl (sw_A (fun _ => 0)))), (q4, .inl (k4, 10, .inl (sw_A (fun _ => 0)))), (q5, .inl (k5, 10, .inl (sw_A (fun _ => 0)))), (q6, .inl (k6, 6, .inl (sw_A (fun _ => 0))))] H := hP
  have hD : va_D A [(q, .inr (1, [.ref q1, .ref q2, .ref q3, .ref q4, .ref q5, .ref q6])), (q1, .inl (k1, 10, .inl (sw_A (sw_bf 0)))), (q2, .inl (k2, 10, .inl (sw_A (fun _ => 0)))), (q3, .inl (k3, 10, .inl (sw_A (fun _ => 0)))), (q4, .inl (k4, 10, .inl (sw_A (fun _ => 0)))), (q5, .inl (k5, 10, .inl (sw_A (fun _ => 0)))), (q6, .inl (k6, 6, .inl (sw_A (fun _ => 0))))] := hD
  refine W.widen (k := 6) (n := 56) (by decide) (by decide) ?_
  have hP : va_P D sw_cl (sw_mw (sw_g7 q q1 q2 q3 q4 q5 q6) (sw_k7 k1 k2 k3 k4 k5 k6) 0 (fun _ => 0) (fun _ => 0) (fun _ => 0) (fun _ => 0) (fun _ => 0)) H := hP
  have hD : va_D A (sw_mw (sw_g7 q q1 q2 q3 q4 q5 q6) (sw_k7 k1 k2 k3 k4 k5 k6) 0 (fun _ => 0) (fun _ => 0) (fun _ => 0) (fun _ => 0) (fun _ => 0)) := hD
  have hK : va_K D sw_cl (sw_mt (sw_k7 k1 k2 k3 k4 k5 k6)) s := hK
  exact W.vret hx hb hr (fun t ht hW => ⟨⟨(), rfl, trivial, sw_g7 q q1 q2 q3 q4 q5 q6, sw_k7 k1 k2 k3 k4 k5 k6, rfl, va_K.moved hW.alike hK, by rw [ht]; exact hP, hD⟩, hS.F ht⟩) hS.2.2 dX1_init_52 hlocks
end
section
set_option maxRecDepth 100000
/-! THE CLAIM OUT OF ONE WALK OF THE LAW'S BODY. Your part is whole_start (and what it stands on); all else here is the same for every law, but numbers. -/
def R_law : String := "StreetWalkerLaw"
def lw_P (b : Addr) (xs : List Int32) (args : Array Value) (s : State) : Prop := args = #[.ref b] ∧ s.IntsAt b xs ∧ xs.length ≤ 256 ∧ (Jvm.Cond.and given_1 narrow_1).before args s = true
def lw_Q (_ : Array Value) (s : State) (o : Outcome) (t : State) : Prop := o = .returned (some (.int 1)) ∧ Framed s o t [] 600000 7290000
def lw_Z (below : List Frame) (a : Array Value) (s : State) : State → Prop := fun t => ∃ o, t.status = .running ∧ Ended t below o ∧ lw_Q a s o t
/-- the law's own end, with 1 on the stack, nothing written that was there before, its room as the claim has it -/
theorem lw_ret {p : Program} {l : Launch} {e : Env} {s : State} {m : MethodId} {below : List Frame} {meth : Method} {c : Code} {b : Nat} (hx : p.tables.exec = Jvm.exec) (hb : c.code = code) (hr : meth.sig.returnType = ret) (hlocks : meth.locks = false) {pc : Nat} {H : Heap} {ls : Array Slot} (hdg : decode code pc = .ok (.ireturn, 1)) : W p l e room_1 s m #[Value.ref b] below meth c H [] 600000 7290000 (lw_Z below #[Value.ref b] s) (F0 m pc ls [.int 1]) := by
  intro T hT X
  obtain ⟨fs, hret, hrun, hended, hW, hframe⟩ := X.leave (v := some (.int 1)) (hlocks := hlocks) (fun h => by rw [hr] at h; cases h)
  have hmeth' : T.vm.method? m = some meth := X.method'
  refine ⟨T.setFrames fs, ?_, .returned (some (.int 1)), hrun, hended, rfl, ⟨_, rfl⟩, hW, hframe⟩
  jvm_step X.here [X.here.top, hx, hb, hdg, hmeth', hr, ret, narrow_b1]
  (try refine ⟨rfl, ?_⟩); (try refine ⟨rfl, ?_⟩)
  first | (intro acts; rw [hret _ acts rfl rfl rfl]) | rw [hret _ _ rfl rfl rfl]
  exact Steps.refl _
/-- what holds at the law's entry: the machine, the code, the tables' words (any of lw_tbl by 'hts w (by decide +kernel)'), the script of L ints xs at the cell b, what the Statement gives of the start (any of its parts by flat_of_before) -/
def lw_At (p : Program) (s : State) (m : MethodId) (meth : Method) (c : Code) (b L : Nat) (xs : Nat → Int32) : Prop :=
  p.tables.exec = Jvm.exec ∧ c.code = code ∧ meth.sig.returnType = ret ∧ c.maxLocals = 4 ∧ s.vm.findClass R_law = some m.cls ∧ (∀ w ∈ lw_tbl, w.before #[Value.ref b] s = true) ∧ va_X b L xs s s.heap ∧ b < s.heap.size ∧ meth.locks = false ∧ (Jvm.Cond.and given_1 narrow_1).before #[Value.ref b] s = true
end
section
/-! THE LAW, case by case -/
/-- where the two objects lie, for good -/
def sw_LG (D : va_G) (g : Nat → Nat) (k : Nat → ClassId) (g' : Nat → Nat) (k' : Nat → ClassId) (s : State) : Prop := sw_XK D k s ∧ sw_MK D k' s ∧ sw_XD g ∧ sw_XD g' ∧ (∀ i j, i < 7 → j < 7 → g i ≠ g' j) ∧ (∀ i, i < 7 → s.heap.size ≤ g i) ∧ ∀ i, i < 7 → s.heap.size ≤ g' i
/-- both hold the same streets -/
def sw_LS (D : va_G) (g : Nat → Nat) (k : Nat → ClassId) (g' : Nat → Nat) (k' : Nat → ClassId) (s : State) (H : Heap) (locs : List Loc) : Prop := ∃ (p : Nat) (a b ln w pg lf lf' nr : Nat → Nat), sw_ok p a b ln ∧ sw_XP D g k p a b ln w pg lf H ∧ sw_MP D g' k' p a b ln lf' nr H ∧ va_S (fun q : Nat => s.heap.size ≤ q) s.heap H locs
theorem sw_keepM {D : va_G} {g g' : Nat → Nat} {k' : Nat → ClassId} {p : Nat} {a b ln lf nr : Nat → Nat} {H H1 : Heap} (hg : sw_XD g') (hap : ∀ i j, i < 7 → j < 7 → g i ≠ g' j) (h : sw_MP D g' k' p a b ln lf nr H) (hk : ∀ q : Nat, q < H.size → ¬ sw_XA g q → H1[q]? = H[q]?) : sw_MP D g' k' p a b ln lf nr H1 :=
  va_P.kept h (fun i q hq => hk q.1 (va_at.lt (h i q hq)) (fun ⟨x, x1, x2⟩ => by
    obtain ⟨y, y1, y2⟩ := (sw_mD (k := k') (p := p) (a := a) (b := b) (ln := ln) (lf := lf) (nr := nr) hg).2 i q hq
    exact hap x y x1 y1 (by rw [← x2, ← y2])))
theorem sw_keepX {D : va_G} {g g' : Nat → Nat} {k : Nat → ClassId} {p : Nat} {a b ln w pg lf : Nat → Nat} {H H1 : Heap} (hg : sw_XD g) (hap : ∀ i j, i < 7 → j < 7 → g i ≠ g' j) (h : sw_XP D g k p a b ln w pg lf H) (hk : ∀ q : Nat, q < H.size → ¬ sw_XA g' q → H1[q]? = H[q]?) : sw_XP D g k p a b ln w pg lf H1 :=
  va_P.kept h (fun i q hq => hk q.1 (va_at.lt (h i q hq)) (fun ⟨x, x1, x2⟩ => by
    obtain ⟨y, y1, y2⟩ := (sw_xD (k := k) (p := p) (a := a) (b := b) (ln := ln) (w := w) (pg := pg) (lf := lf) hg).2 i q hq
    exact hap y x y1 x1 (by rw [← x2, ← y2])))
theorem sw_XA_lo {g : Nat → Nat} {n : Nat} (h : ∀ i, i < 7 → n ≤ g i) (q : Nat) (hq : sw_XA g q) : n ≤ q := by
  obtain ⟨i, h1, h2⟩ := hq
  rw [h2]
  exact h i h1
section SWL
variable {P : Program} {l : Launch} {e : Env} {s : State} {m : MethodId} {bl : List Frame} {mt : Method} {c : Code} {Q : State → Prop} {H : Heap} {locs : List Loc} {cells slots : Nat} {ls : Array Slot} {bb L : Nat} {xs : Nat → Int32} {D : va_G} {g g' : Nat → Nat} {k k' : Nat → ClassId} {i : Nat}
theorem sl_ld {R : Room} {args : Array Value} {cc : ByteArray} {pc n : Nat} {rest : List Value} {A : Nat → Prop} {H0 : Heap} (hx : P.tables.exec = Jvm.exec) (hb : c.code = cc) (hX : va_X bb L xs s H0) (hbl : bb < H0.size) (hbA : ¬ A bb) (hS : va_S A H0 H locs) (hn : n < L) (hL : L ≤ 256) (hdg : decode cc pc = .ok (.iaload, 1)) (kk : W P l e R s m args bl mt c H locs cells slots Q (F0 m (pc + 1) ls (.int (xs n) :: rest))) : W P l e R s m args bl mt c H locs cells slots Q (F0 m pc ls (.int (nI n) :: .ref bb :: rest)) := va_sld hx hb hX hbl hbA hS (vp_in_nI hn (by omega)) hdg (by rw [nI_clamp (by omega)]; exact kk)
set_option maxHeartbeats 4000000 in
set_option maxRecDepth 100000 in
theorem lc_build (S : CallFix P m c code 4 s #[Value.ref bb] lw_all R_law) (hcs : cells ≤ room_1.cells) (hss : slots ≤ room_1.slots) (hX : va_X bb L xs s s.heap) (hbl : bb < s.heap.size) (hG : sw_LG D g k g' k' s) (hi : i + 4 ≤ L) (hL : L ≤ 256) (hSt : sw_LS D g k g' k' s H locs) (hl : lv_has ls 4 [(0, .ref (bb)), (1, .ref (g 0)), (2, .ref (g' 0)), (3, .int (nI (i)))]) (kn : ∀ (H : Heap) (locs : List Loc), sw_LS D g k g' k' s H locs → W P l e room_1 s m #[Value.ref bb] bl mt c H locs cells slots Q (F0 m 389 ls [])) : W P l e room_1 s m #[Value.ref bb] bl mt c H locs cells slots Q (F0 m 100 ls []) := by
  obtain ⟨p, a, b, ln, w, pg, lf, lf', nr, hok, hPx, hPm, hS⟩ := hSt
  obtain ⟨hKx, hKm, hgx, hgm, hap, hlo, hlo'⟩ := hG
  obtain ⟨hx, hb, hml, hown, hts⟩ := id S
  obtain ⟨hp, hr, hne⟩ := id hok
  have hbA : ¬ (fun q : Nat => s.heap.size ≤ q) bb := Nat.not_le.mpr hbl
  refine lv_aload_n hx hb dL_law_100 rfl (lv_at hl 1 rfl) ?_
  refine lv_aload_n hx hb dL_law_101 rfl (lv_at hl 0 rfl) ?_
  refine lv_iload_n hx hb dL_law_102 rfl (lv_at hl 3 rfl) ?_
  refine lv_iconst (v := nI 1) hx hb dL_law_103 (by decide) ?_
  refine sr_add hx hb dL_law_104 ?_
  refine sl_ld hx hb hX hbl hbA hS (by omega) hL dL_law_105 ?_
  refine lv_aload_n hx hb dL_law_106 rfl (lv_at hl 0 rfl) ?_
  refine lv_iload_n hx hb dL_law_107 rfl (lv_at hl 3 rfl) ?_
  refine lv_iconst (v := nI 2) hx hb dL_law_108 (by decide) ?_
  refine sr_add hx hb dL_law_109 ?_
  refine sl_ld hx hb hX hbl hbA hS (by omega) hL dL_law_110 ?_
  refine lv_aload_n hx hb dL_law_111 rfl (lv_at hl 0 rfl) ?_
  refine lv_iload_n hx hb dL_law_112 rfl (lv_at hl 3 rfl) ?_
  refine lv_iconst (v := nI 3) hx hb dL_law_113 (by decide) ?_
  refine sr_add hx hb dL_law_114 ?_
  refine sl_ld hx hb hX hbl hbA hS (by omega) hL dL_law_115 ?_
  refine xk_wi (As := [.int (xs (i + 1)), .int (xs (i + 2)), .int (xs (i + 3))]) (n := 3) S (cX_build l D g k p a b ln w pg lf (xs (i + 1)) (xs (i + 2)) (xs (i + 3)) hgx hp) (lw_V q55 q56 q57 q21 q58) hdX0_build (by decide) (by decide) (by decide) hcs hss hKx hPx hS (sw_XA_lo hlo) rfl hl.1 (Nat.le_of_ble_eq_true rfl) dL_law_116 rfl (fun r1 u1 H1 locs hq1 hPx hz1 hk1 hS => ?_)
  have hPm := sw_keepM hgm hap hPm hk1
  refine lv_aload_n hx hb dL_law_119 rfl (lv_at hl 2 rfl) ?_
  refine lv_aload_n hx hb dL_law_120 rfl (lv_at hl 0 rfl) ?_
  refine lv_iload_n hx hb dL_law_121 rfl (lv_at hl 3 rfl) ?_
  refine lv_iconst (v := nI 1) hx hb dL_law_122 (by decide) ?_
  refine sr_add hx hb dL_law_123 ?_
  refine sl_ld hx hb hX hbl hbA hS (by omega) hL dL_law_124 ?_
  refine lv_aload_n hx hb dL_law_125 rfl (lv_at hl 0 rfl) ?_
  refine lv_iload_n hx hb dL_law_126 rfl (lv_at hl 3 rfl) ?_
  refine lv_iconst (v := nI 2) hx hb dL_law_127 (by decide) ?_
  refine sr_add hx hb dL_law_128 ?_
  refine sl_ld hx hb hX hbl hbA hS (by omega) hL dL_law_129 ?_
  refine lv_aload_n hx hb dL_law_130 rfl (lv_at hl 0 rfl) ?_
  refine lv_iload_n hx hb dL_law_131 rfl (lv_at hl 3 rfl) ?_
  refine lv_iconst (v := nI 3) hx hb dL_law_132 (by decide) ?_
  refine sr_add hx hb dL_law_133 ?_
  refine sl_ld hx hb hX hbl hbA hS (by omega) hL dL_law_134 ?_
  refine mk_wi (As := [.int (xs (i + 1)), .int (xs (i + 2)), .int (xs (i + 3))]) (n := 3) S (cM_build l D g' k' p a b ln lf' nr (xs (i + 1)) (xs (i + 2)) (xs (i + 3)) hgm) (lw_V q183 q184 q185 q22 q186) hdX1_build (by decide) (by decide) (by decide) hcs hss hKm hPm hS (sw_XA_lo hlo') rfl hl.1 (Nat.le_of_ble_eq_true rfl) dL_law_135 rfl (fun r2 u2 H2 locs hq2 hPm hz2 hk2 hS => ?_)
  have hPx := sw_keepX hgx hap hPx hk2
  obtain ⟨rfl, rfl⟩ := Prod.mk.inj (hq1.trans hq2.symm)
  refine lv_icmp_eq (tgt := 389) hx hb dL_law_138 (by decide) (fun _ => kn _ _ ⟨u1.1, u1.2.1, u1.2.2.1, u1.2.2.2, w, pg, lf, lf', nr, sw_ok_bld hok hq1, hPx, hPm, hS⟩) (fun q => absurd (rfl) q)
set_option maxHeartbeats 4000000 in
set_option maxRecDepth 100000 in
theorem lc_close (S : CallFix P m c code 4 s #[Value.ref bb] lw_all R_law) (hcs : cells ≤ room_1.cells) (hss : slots ≤ room_1.slots) (hX : va_X bb L xs s s.heap) (hbl : bb < s.heap.size) (hG : sw_LG D g k g' k' s) (hi : i + 4 ≤ L) (hL : L ≤ 256) (hSt : sw_LS D g k g' k' s H locs) (hl : lv_has ls 4 [(0, .ref (bb)), (1, .ref (g 0)), (2, .ref (g' 0)), (3, .int (nI (i)))]) (kn : ∀ (H : Heap) (locs : List Loc), sw_LS D g k g' k' s H locs → W P l e room_1 s m #[Value.ref bb] bl mt c H locs cells slots Q (F0 m 389 ls [])) : W P l e room_1 s m #[Value.ref bb] bl mt c H locs cells slots Q (F0 m 143 ls []) := by
  obtain ⟨p, a, b, ln, w, pg, lf, lf', nr, hok, hPx, hPm, hS⟩ := hSt
  obtain ⟨hKx, hKm, hgx, hgm, hap, hlo, hlo'⟩ := hG
  obtain ⟨hx, hb, hml, hown, hts⟩ := id S
  obtain ⟨hp, hr, hne⟩ := id hok
  have hbA : ¬ (fun q : Nat => s.heap.size ≤ q) bb := Nat.not_le.mpr hbl
  refine lv_aload_n hx hb dL_law_143 rfl (lv_at hl 1 rfl) ?_
  refine lv_aload_n hx hb dL_law_144 rfl (lv_at hl 0 rfl) ?_
  refine lv_iload_n hx hb dL_law_145 rfl (lv_at hl 3 rfl) ?_
  refine lv_iconst (v := nI 1) hx hb dL_law_146 (by decide) ?_
  refine sr_add hx hb dL_law_147 ?_
  refine sl_ld hx hb hX hbl hbA hS (by omega) hL dL_law_148 ?_
  refine xk_wi (As := [.int (xs (i + 1))]) (n := 1) S (cX_close l D g k p a b ln w pg lf (xs (i + 1)) hgx hp) (lw_V q66 q67 q68 q21 q69) hdX0_close (by decide) (by decide) (by decide) hcs hss hKx hPx hS (sw_XA_lo hlo) rfl hl.1 (Nat.le_of_ble_eq_true rfl) dL_law_149 rfl (fun r1 u1 H1 locs hq1 hPx hz1 hk1 hS => ?_)
  have hPm := sw_keepM hgm hap hPm hk1
  refine lv_aload_n hx hb dL_law_152 rfl (lv_at hl 2 rfl) ?_
  refine lv_aload_n hx hb dL_law_153 rfl (lv_at hl 0 rfl) ?_
  refine lv_iload_n hx hb dL_law_154 rfl (lv_at hl 3 rfl) ?_
  refine lv_iconst (v := nI 1) hx hb dL_law_155 (by decide) ?_
  refine sr_add hx hb dL_law_156 ?_
  refine sl_ld hx hb hX hbl hbA hS (by omega) hL dL_law_157 ?_
  refine mk_wi (As := [.int (xs (i + 1))]) (n := 1) S (cM_close l D g' k' p a b ln lf' nr (xs (i + 1)) hgm) (lw_V q191 q192 q193 q22 q194) hdX1_close (by decide) (by decide) (by decide) hcs hss hKm hPm hS (sw_XA_lo hlo') rfl hl.1 (Nat.le_of_ble_eq_true rfl) dL_law_158 rfl (fun r2 u2 H2 locs hq2 hPm hz2 hk2 hS => ?_)
  have hPx := sw_keepX hgx hap hPx hk2
  obtain ⟨rfl, rfl⟩ := hq1
  obtain ⟨rfl, rfl⟩ := hq2
  refine lv_icmp_eq (tgt := 389) hx hb dL_law_161 (by decide) (fun _ => kn _ _ ⟨sw_cls p (xs (i + 1)), a, b, ln, w, pg, lf, lf', nr, sw_ok_cls _ hok, hPx, hPm, hS⟩) (fun q => absurd (rfl) q)
set_option maxHeartbeats 4000000 in
set_option maxRecDepth 100000 in
theorem lc_setLength (S : CallFix P m c code 4 s #[Value.ref bb] lw_all R_law) (hcs : cells ≤ room_1.cells) (hss : slots ≤ room_1.slots) (hX : va_X bb L xs s s.heap) (hbl : bb < s.heap.size) (hG : sw_LG D g k g' k' s) (hi : i + 4 ≤ L) (hL : L ≤ 256) (hSt : sw_LS D g k g' k' s H locs) (hl : lv_has ls 4 [(0, .ref (bb)), (1, .ref (g 0)), (2, .ref (g' 0)), (3, .int (nI (i)))]) (kn : ∀ (H : Heap) (locs : List Loc), sw_LS D g k g' k' s H locs → W P l e room_1 s m #[Value.ref bb] bl mt c H locs cells slots Q (F0 m 389 ls [])) : W P l e room_1 s m #[Value.ref bb] bl mt c H locs cells slots Q (F0 m 166 ls []) := by
  obtain ⟨p, a, b, ln, w, pg, lf, lf', nr, hok, hPx, hPm, hS⟩ := hSt
  obtain ⟨hKx, hKm, hgx, hgm, hap, hlo, hlo'⟩ := hG
  obtain ⟨hx, hb, hml, hown, hts⟩ := id S
  obtain ⟨hp, hr, hne⟩ := id hok
  have hbA : ¬ (fun q : Nat => s.heap.size ≤ q) bb := Nat.not_le.mpr hbl
  refine lv_aload_n hx hb dL_law_166 rfl (lv_at hl 1 rfl) ?_
  refine lv_aload_n hx hb dL_law_167 rfl (lv_at hl 0 rfl) ?_
  refine lv_iload_n hx hb dL_law_168 rfl (lv_at hl 3 rfl) ?_
  refine lv_iconst (v := nI 1) hx hb dL_law_169 (by decide) ?_
  refine sr_add hx hb dL_law_170 ?_
  refine sl_ld hx hb hX hbl hbA hS (by omega) hL dL_law_171 ?_
  refine lv_aload_n hx hb dL_law_172 rfl (lv_at hl 0 rfl) ?_
  refine lv_iload_n hx hb dL_law_173 rfl (lv_at hl 3 rfl) ?_
  refine lv_iconst (v := nI 2) hx hb dL_law_174 (by decide) ?_
  refine sr_add hx hb dL_law_175 ?_
  refine sl_ld hx hb hX hbl hbA hS (by omega) hL dL_law_176 ?_
  refine xk_wi (As := [.int (xs (i + 1)), .int (xs (i + 2))]) (n := 2) S (cX_setLength l D g k p a b ln w pg lf (xs (i + 1)) (xs (i + 2)) hgx hp) (lw_V q70 q71 q72 q21 q73) hdX0_setLength (by decide) (by decide) (by decide) hcs hss hKx hPx hS (sw_XA_lo hlo) rfl hl.1 (Nat.le_of_ble_eq_true rfl) dL_law_177 rfl (fun r1 u1 H1 locs hq1 hPx hz1 hk1 hS => ?_)
  have hPm := sw_keepM hgm hap hPm hk1
  refine lv_aload_n hx hb dL_law_180 rfl (lv_at hl 2 rfl) ?_
  refine lv_aload_n hx hb dL_law_181 rfl (lv_at hl 0 rfl) ?_
  refine lv_iload_n hx hb dL_law_182 rfl (lv_at hl 3 rfl) ?_
  refine lv_iconst (v := nI 1) hx hb dL_law_183 (by decide) ?_
  refine sr_add hx hb dL_law_184 ?_
  refine sl_ld hx hb hX hbl hbA hS (by omega) hL dL_law_185 ?_
  refine lv_aload_n hx hb dL_law_186 rfl (lv_at hl 0 rfl) ?_
  refine lv_iload_n hx hb dL_law_187 rfl (lv_at hl 3 rfl) ?_
  refine lv_iconst (v := nI 2) hx hb dL_law_188 (by decide) ?_
  refine sr_add hx hb dL_law_189 ?_
  refine sl_ld hx hb hX hbl hbA hS (by omega) hL dL_law_190 ?_
  refine mk_wi (As := [.int (xs (i + 1)), .int (xs (i + 2))]) (n := 2) S (cM_setLength l D g' k' p a b ln lf' nr (xs (i + 1)) (xs (i + 2)) hgm) (lw_V q199 q200 q201 q22 q202) hdX1_setLength (by decide) (by decide) (by decide) hcs hss hKm hPm hS (sw_XA_lo hlo') rfl hl.1 (Nat.le_of_ble_eq_true rfl) dL_law_191 rfl (fun r2 u2 H2 locs hq2 hPm hz2 hk2 hS => ?_)
  have hPx := sw_keepX hgx hap hPx hk2
  obtain ⟨rfl, rfl⟩ := hq1
  obtain ⟨rfl, rfl⟩ := hq2
  refine lv_icmp_eq (tgt := 389) hx hb dL_law_194 (by decide) (fun _ => kn _ _ ⟨p, a, b, sw_stl p ln (xs (i + 1)) (xs (i + 2)), w, pg, lf, lf', nr, sw_ok_stl _ _ hok, hPx, hPm, hS⟩) (fun q => absurd (rfl) q)
set_option maxHeartbeats 4000000 in
set_option maxRecDepth 100000 in
theorem lc_streets (S : CallFix P m c code 4 s #[Value.ref bb] lw_all R_law) (hcs : cells ≤ room_1.cells) (hss : slots ≤ room_1.slots) (hX : va_X bb L xs s s.heap) (hbl : bb < s.heap.size) (hG : sw_LG D g k g' k' s) (hi : i + 4 ≤ L) (hL : L ≤ 256) (hSt : sw_LS D g k g' k' s H locs) (hl : lv_has ls 4 [(0, .ref (bb)), (1, .ref (g 0)), (2, .ref (g' 0)), (3, .int (nI (i)))]) (kn : ∀ (H : Heap) (locs : List Loc), sw_LS D g k g' k' s H locs → W P l e room_1 s m #[Value.ref bb] bl mt c H locs cells slots Q (F0 m 389 ls [])) : W P l e room_1 s m #[Value.ref bb] bl mt c H locs cells slots Q (F0 m 199 ls []) := by
  obtain ⟨p, a, b, ln, w, pg, lf, lf', nr, hok, hPx, hPm, hS⟩ := hSt
  obtain ⟨hKx, hKm, hgx, hgm, hap, hlo, hlo'⟩ := hG
  obtain ⟨hx, hb, hml, hown, hts⟩ := id S
  obtain ⟨hp, hr, hne⟩ := id hok
  have hbA : ¬ (fun q : Nat => s.heap.size ≤ q) bb := Nat.not_le.mpr hbl
  refine lv_aload_n hx hb dL_law_199 rfl (lv_at hl 1 rfl) ?_
  refine xc_ro (As := []) (n := 0) S (cX_streets l D g k p a b ln w pg lf  ) (lw_V q74 q75 q76 q21 q77) hdX0_streets (by decide) (by decide) (by decide) hcs hss hKx hPx rfl hl.1 (Nat.le_of_ble_eq_true rfl) dL_law_200 rfl (fun r1 hq1 => ?_)
  refine lv_aload_n hx hb dL_law_203 rfl (lv_at hl 2 rfl) ?_
  refine mc_ro (As := []) (n := 0) S (cM_streets l D g' k' p a b ln lf' nr  hp) (lw_V q203 q204 q205 q22 q206) hdX1_streets (by decide) (by decide) (by decide) hcs hss hKm hPm rfl hl.1 (Nat.le_of_ble_eq_true rfl) dL_law_204 rfl (fun r2 hq2 => ?_)
  subst hq1
  subst hq2
  refine lv_icmp_eq (tgt := 389) hx hb dL_law_207 (by decide) (fun _ => kn _ _ ⟨p, a, b, ln, w, pg, lf, lf', nr, hok, hPx, hPm, hS⟩) (fun q => absurd (rfl) q)
set_option maxHeartbeats 4000000 in
set_option maxRecDepth 100000 in
theorem lc_odd (S : CallFix P m c code 4 s #[Value.ref bb] lw_all R_law) (hcs : cells ≤ room_1.cells) (hss : slots ≤ room_1.slots) (hX : va_X bb L xs s s.heap) (hbl : bb < s.heap.size) (hG : sw_LG D g k g' k' s) (hi : i + 4 ≤ L) (hL : L ≤ 256) (hSt : sw_LS D g k g' k' s H locs) (hl : lv_has ls 4 [(0, .ref (bb)), (1, .ref (g 0)), (2, .ref (g' 0)), (3, .int (nI (i)))]) (kn : ∀ (H : Heap) (locs : List Loc), sw_LS D g k g' k' s H locs → W P l e room_1 s m #[Value.ref bb] bl mt c H locs cells slots Q (F0 m 389 ls [])) : W P l e room_1 s m #[Value.ref bb] bl mt c H locs cells slots Q (F0 m 212 ls []) := by
  obtain ⟨p, a, b, ln, w, pg, lf, lf', nr, hok, hPx, hPm, hS⟩ := hSt
  obtain ⟨hKx, hKm, hgx, hgm, hap, hlo, hlo'⟩ := hG
  obtain ⟨hx, hb, hml, hown, hts⟩ := id S
  obtain ⟨hp, hr, hne⟩ := id hok
  have hbA : ¬ (fun q : Nat => s.heap.size ≤ q) bb := Nat.not_le.mpr hbl
  refine lv_aload_n hx hb dL_law_212 rfl (lv_at hl 1 rfl) ?_
  refine xc_ro (As := []) (n := 0) S (cX_odd l D g k p a b ln w pg lf  hp hr hne) (lw_V q78 q79 q80 q21 q81) hdX0_odd (by decide) (by decide) (by decide) hcs hss hKx hPx rfl hl.1 (Nat.le_of_ble_eq_true rfl) dL_law_213 rfl (fun r1 hq1 => ?_)
  refine lv_aload_n hx hb dL_law_216 rfl (lv_at hl 2 rfl) ?_
  refine mc_ro (As := []) (n := 0) S (cM_odd l D g' k' p a b ln lf' nr  hp hr) (lw_V q207 q208 q209 q22 q210) hdX1_odd (by decide) (by decide) (by decide) hcs hss hKm hPm rfl hl.1 (Nat.le_of_ble_eq_true rfl) dL_law_217 rfl (fun r2 hq2 => ?_)
  subst hq1
  subst hq2
  refine lv_icmp_eq (tgt := 389) hx hb dL_law_220 (by decide) (fun _ => kn _ _ ⟨p, a, b, ln, w, pg, lf, lf', nr, hok, hPx, hPm, hS⟩) (fun q => absurd (rfl) q)
set_option maxHeartbeats 4000000 in
set_option maxRecDepth 100000 in
theorem lc_connected (S : CallFix P m c code 4 s #[Value.ref bb] lw_all R_law) (hcs : cells ≤ room_1.cells) (hss : slots ≤ room_1.slots) (hX : va_X bb L xs s s.heap) (hbl : bb < s.heap.size) (hG : sw_LG D g k g' k' s) (hi : i + 4 ≤ L) (hL : L ≤ 256) (hSt : sw_LS D g k g' k' s H locs) (hl : lv_has ls 4 [(0, .ref (bb)), (1, .ref (g 0)), (2, .ref (g' 0)), (3, .int (nI (i)))]) (kn : ∀ (H : Heap) (locs : List Loc), sw_LS D g k g' k' s H locs → W P l e room_1 s m #[Value.ref bb] bl mt c H locs cells slots Q (F0 m 389 ls [])) : W P l e room_1 s m #[Value.ref bb] bl mt c H locs cells slots Q (F0 m 225 ls []) := by
  obtain ⟨p, a, b, ln, w, pg, lf, lf', nr, hok, hPx, hPm, hS⟩ := hSt
  obtain ⟨hKx, hKm, hgx, hgm, hap, hlo, hlo'⟩ := hG
  obtain ⟨hx, hb, hml, hown, hts⟩ := id S
  obtain ⟨hp, hr, hne⟩ := id hok
  have hbA : ¬ (fun q : Nat => s.heap.size ≤ q) bb := Nat.not_le.mpr hbl
  refine lv_aload_n hx hb dL_law_225 rfl (lv_at hl 1 rfl) ?_
  refine xc_ro (As := []) (n := 0) S (cX_connected l D g k p a b ln w pg lf  hp hr) (lw_V q86 q87 q88 q21 q89) hdX0_connected (by decide) (by decide) (by decide) hcs hss hKx hPx rfl hl.1 (Nat.le_of_ble_eq_true rfl) dL_law_226 rfl (fun r1 hq1 => ?_)
  refine lv_aload_n hx hb dL_law_229 rfl (lv_at hl 2 rfl) ?_
  refine mc_ro (As := []) (n := 0) S (cM_connected l D g' k' p a b ln lf' nr  hp hr) (lw_V q216 q217 q218 q22 q219) hdX1_connected (by decide) (by decide) (by decide) hcs hss hKm hPm rfl hl.1 (Nat.le_of_ble_eq_true rfl) dL_law_230 rfl (fun r2 hq2 => ?_)
  refine lv_icmp_eq (tgt := 389) hx hb dL_law_233 (by decide) (fun _ => kn _ _ ⟨p, a, b, ln, w, pg, lf, lf', nr, hok, hPx, hPm, hS⟩) (fun q => absurd (sq_con hq1 hq2) q)
set_option maxHeartbeats 4000000 in
set_option maxRecDepth 100000 in
theorem lc_extra (S : CallFix P m c code 4 s #[Value.ref bb] lw_all R_law) (hcs : cells ≤ room_1.cells) (hss : slots ≤ room_1.slots) (hX : va_X bb L xs s s.heap) (hbl : bb < s.heap.size) (hG : sw_LG D g k g' k' s) (hi : i + 4 ≤ L) (hL : L ≤ 256) (hSt : sw_LS D g k g' k' s H locs) (hl : lv_has ls 4 [(0, .ref (bb)), (1, .ref (g 0)), (2, .ref (g' 0)), (3, .int (nI (i)))]) (kn : ∀ (H : Heap) (locs : List Loc), sw_LS D g k g' k' s H locs → W P l e room_1 s m #[Value.ref bb] bl mt c H locs cells slots Q (F0 m 389 ls [])) : W P l e room_1 s m #[Value.ref bb] bl mt c H locs cells slots Q (F0 m 238 ls []) := by
  obtain ⟨p, a, b, ln, w, pg, lf, lf', nr, hok, hPx, hPm, hS⟩ := hSt
  obtain ⟨hKx, hKm, hgx, hgm, hap, hlo, hlo'⟩ := hG
  obtain ⟨hx, hb, hml, hown, hts⟩ := id S
  obtain ⟨hp, hr, hne⟩ := id hok
  have hbA : ¬ (fun q : Nat => s.heap.size ≤ q) bb := Nat.not_le.mpr hbl
  refine lv_aload_n hx hb dL_law_238 rfl (lv_at hl 1 rfl) ?_
  refine xk_wi (As := []) (n := 0) S (cX_extra l D g k p a b ln w pg lf  hgx hp hr hne) (lw_V q98 q99 q100 q21 q101) hdX0_extra (by decide) (by decide) (by decide) hcs hss hKx hPx hS (sw_XA_lo hlo) rfl hl.1 (Nat.le_of_ble_eq_true rfl) dL_law_239 rfl (fun r1 u1 H1 locs hq1 hPx hz1 hk1 hS => ?_)
  have hPm := sw_keepM hgm hap hPm hk1
  refine lv_aload_n hx hb dL_law_242 rfl (lv_at hl 2 rfl) ?_
  refine mc_ro (As := []) (n := 0) S (cM_extra l D g' k' p a b ln lf' nr  hp hr) (lw_V q228 q229 q230 q22 q231) hdX1_extra (by decide) (by decide) (by decide) hcs hss hKm hPm rfl hl.1 (Nat.le_of_ble_eq_true rfl) dL_law_243 rfl (fun r2 hq2 => ?_)
  refine lv_icmp_eq (tgt := 389) hx hb dL_law_246 (by decide) (fun _ => kn _ _ ⟨p, a, b, ln, u1.1, u1.2, lf, lf', nr, hok, hPx, hPm, hS⟩) (fun q => absurd (sq_extra hok hq1 hq2) q)
set_option maxHeartbeats 4000000 in
set_option maxRecDepth 100000 in
theorem lc_bestSet (S : CallFix P m c code 4 s #[Value.ref bb] lw_all R_law) (hcs : cells ≤ room_1.cells) (hss : slots ≤ room_1.slots) (hX : va_X bb L xs s s.heap) (hbl : bb < s.heap.size) (hG : sw_LG D g k g' k' s) (hi : i + 4 ≤ L) (hL : L ≤ 256) (hSt : sw_LS D g k g' k' s H locs) (hl : lv_has ls 4 [(0, .ref (bb)), (1, .ref (g 0)), (2, .ref (g' 0)), (3, .int (nI (i)))]) (kn : ∀ (H : Heap) (locs : List Loc), sw_LS D g k g' k' s H locs → W P l e room_1 s m #[Value.ref bb] bl mt c H locs cells slots Q (F0 m 389 ls [])) : W P l e room_1 s m #[Value.ref bb] bl mt c H locs cells slots Q (F0 m 251 ls []) := by
  obtain ⟨p, a, b, ln, w, pg, lf, lf', nr, hok, hPx, hPm, hS⟩ := hSt
  obtain ⟨hKx, hKm, hgx, hgm, hap, hlo, hlo'⟩ := hG
  obtain ⟨hx, hb, hml, hown, hts⟩ := id S
  obtain ⟨hp, hr, hne⟩ := id hok
  have hbA : ¬ (fun q : Nat => s.heap.size ≤ q) bb := Nat.not_le.mpr hbl
  refine lv_aload_n hx hb dL_law_251 rfl (lv_at hl 1 rfl) ?_
  refine xk_wi (As := []) (n := 0) S (cX_bestSet l D g k p a b ln w pg lf  hgx hp hr hne) (lw_V q121 q122 q123 q21 q124) hdX0_bestSet (by decide) (by decide) (by decide) hcs hss hKx hPx hS (sw_XA_lo hlo) rfl hl.1 (Nat.le_of_ble_eq_true rfl) dL_law_252 rfl (fun r1 u1 H1 locs hq1 hPx hz1 hk1 hS => ?_)
  have hPm := sw_keepM hgm hap hPm hk1
  refine lv_aload_n hx hb dL_law_255 rfl (lv_at hl 2 rfl) ?_
  refine mc_ro (As := []) (n := 0) S (cM_bestSet l D g' k' p a b ln lf' nr  hp hr) (lw_V q246 q247 q248 q22 q249) hdX1_bestSet (by decide) (by decide) (by decide) hcs hss hKm hPm rfl hl.1 (Nat.le_of_ble_eq_true rfl) dL_law_256 rfl (fun r2 hq2 => ?_)
  refine lv_icmp_eq (tgt := 389) hx hb dL_law_259 (by decide) (fun _ => kn _ _ ⟨p, a, b, ln, u1.1, u1.2, lf, lf', nr, hok, hPx, hPm, hS⟩) (fun q => absurd (sq_best hok hq1 hq2) q)
set_option maxHeartbeats 4000000 in
set_option maxRecDepth 100000 in
theorem lc_extraWith (S : CallFix P m c code 4 s #[Value.ref bb] lw_all R_law) (hcs : cells ≤ room_1.cells) (hss : slots ≤ room_1.slots) (hX : va_X bb L xs s s.heap) (hbl : bb < s.heap.size) (hG : sw_LG D g k g' k' s) (hi : i + 4 ≤ L) (hL : L ≤ 256) (hSt : sw_LS D g k g' k' s H locs) (hl : lv_has ls 4 [(0, .ref (bb)), (1, .ref (g 0)), (2, .ref (g' 0)), (3, .int (nI (i)))]) (kn : ∀ (H : Heap) (locs : List Loc), sw_LS D g k g' k' s H locs → W P l e room_1 s m #[Value.ref bb] bl mt c H locs cells slots Q (F0 m 389 ls [])) : W P l e room_1 s m #[Value.ref bb] bl mt c H locs cells slots Q (F0 m 264 ls []) := by
  obtain ⟨p, a, b, ln, w, pg, lf, lf', nr, hok, hPx, hPm, hS⟩ := hSt
  obtain ⟨hKx, hKm, hgx, hgm, hap, hlo, hlo'⟩ := hG
  obtain ⟨hx, hb, hml, hown, hts⟩ := id S
  obtain ⟨hp, hr, hne⟩ := id hok
  have hbA : ¬ (fun q : Nat => s.heap.size ≤ q) bb := Nat.not_le.mpr hbl
  refine lv_aload_n hx hb dL_law_264 rfl (lv_at hl 1 rfl) ?_
  refine lv_aload_n hx hb dL_law_265 rfl (lv_at hl 0 rfl) ?_
  refine lv_iload_n hx hb dL_law_266 rfl (lv_at hl 3 rfl) ?_
  refine lv_iconst (v := nI 1) hx hb dL_law_267 (by decide) ?_
  refine sr_add hx hb dL_law_268 ?_
  refine sl_ld hx hb hX hbl hbA hS (by omega) hL dL_law_269 ?_
  refine xk_wi (As := [.int (xs (i + 1))]) (n := 1) S (cX_extraWith l D g k p a b ln w pg lf (xs (i + 1)) hgx hp hr hne) (lw_V q125 q126 q127 q21 q128) hdX0_extraWith (by decide) (by decide) (by decide) hcs hss hKx hPx hS (sw_XA_lo hlo) rfl hl.1 (Nat.le_of_ble_eq_true rfl) dL_law_270 rfl (fun r1 u1 H1 locs hq1 hPx hz1 hk1 hS => ?_)
  have hPm := sw_keepM hgm hap hPm hk1
  refine lv_aload_n hx hb dL_law_273 rfl (lv_at hl 2 rfl) ?_
  refine lv_aload_n hx hb dL_law_274 rfl (lv_at hl 0 rfl) ?_
  refine lv_iload_n hx hb dL_law_275 rfl (lv_at hl 3 rfl) ?_
  refine lv_iconst (v := nI 1) hx hb dL_law_276 (by decide) ?_
  refine sr_add hx hb dL_law_277 ?_
  refine sl_ld hx hb hX hbl hbA hS (by omega) hL dL_law_278 ?_
  refine mc_ro (As := [.int (xs (i + 1))]) (n := 1) S (cM_extraWith l D g' k' p a b ln lf' nr (xs (i + 1)) hp hr) (lw_V q250 q251 q252 q22 q253) hdX1_extraWith (by decide) (by decide) (by decide) hcs hss hKm hPm rfl hl.1 (Nat.le_of_ble_eq_true rfl) dL_law_279 rfl (fun r2 hq2 => ?_)
  refine lv_icmp_eq (tgt := 389) hx hb dL_law_282 (by decide) (fun _ => kn _ _ ⟨p, a, b, ln, u1.1, u1.2, lf, lf', nr, hok, hPx, hPm, hS⟩) (fun q => absurd (sq_with hok hq1 hq2) q)
set_option maxHeartbeats 4000000 in
set_option maxRecDepth 100000 in
theorem lc_extraWithout (S : CallFix P m c code 4 s #[Value.ref bb] lw_all R_law) (hcs : cells ≤ room_1.cells) (hss : slots ≤ room_1.slots) (hX : va_X bb L xs s s.heap) (hbl : bb < s.heap.size) (hG : sw_LG D g k g' k' s) (hi : i + 4 ≤ L) (hL : L ≤ 256) (hSt : sw_LS D g k g' k' s H locs) (hl : lv_has ls 4 [(0, .ref (bb)), (1, .ref (g 0)), (2, .ref (g' 0)), (3, .int (nI (i)))]) (kn : ∀ (H : Heap) (locs : List Loc), sw_LS D g k g' k' s H locs → W P l e room_1 s m #[Value.ref bb] bl mt c H locs cells slots Q (F0 m 389 ls [])) : W P l e room_1 s m #[Value.ref bb] bl mt c H locs cells slots Q (F0 m 287 ls []) := by
  obtain ⟨p, a, b, ln, w, pg, lf, lf', nr, hok, hPx, hPm, hS⟩ := hSt
  obtain ⟨hKx, hKm, hgx, hgm, hap, hlo, hlo'⟩ := hG
  obtain ⟨hx, hb, hml, hown, hts⟩ := id S
  obtain ⟨hp, hr, hne⟩ := id hok
  have hbA : ¬ (fun q : Nat => s.heap.size ≤ q) bb := Nat.not_le.mpr hbl
  refine lv_aload_n hx hb dL_law_287 rfl (lv_at hl 1 rfl) ?_
  refine lv_aload_n hx hb dL_law_288 rfl (lv_at hl 0 rfl) ?_
  refine lv_iload_n hx hb dL_law_289 rfl (lv_at hl 3 rfl) ?_
  refine lv_iconst (v := nI 1) hx hb dL_law_290 (by decide) ?_
  refine sr_add hx hb dL_law_291 ?_
  refine sl_ld hx hb hX hbl hbA hS (by omega) hL dL_law_292 ?_
  refine xk_wi (As := [.int (xs (i + 1))]) (n := 1) S (cX_extraWithout l D g k p a b ln w pg lf (xs (i + 1)) hgx hp hr hne) (lw_V q129 q130 q131 q21 q132) hdX0_extraWithout (by decide) (by decide) (by decide) hcs hss hKx hPx hS (sw_XA_lo hlo) rfl hl.1 (Nat.le_of_ble_eq_true rfl) dL_law_293 rfl (fun r1 u1 H1 locs hq1 hPx hz1 hk1 hS => ?_)
  have hPm := sw_keepM hgm hap hPm hk1
  refine lv_aload_n hx hb dL_law_296 rfl (lv_at hl 2 rfl) ?_
  refine lv_aload_n hx hb dL_law_297 rfl (lv_at hl 0 rfl) ?_
  refine lv_iload_n hx hb dL_law_298 rfl (lv_at hl 3 rfl) ?_
  refine lv_iconst (v := nI 1) hx hb dL_law_299 (by decide) ?_
  refine sr_add hx hb dL_law_300 ?_
  refine sl_ld hx hb hX hbl hbA hS (by omega) hL dL_law_301 ?_
  refine mc_ro (As := [.int (xs (i + 1))]) (n := 1) S (cM_extraWithout l D g' k' p a b ln lf' nr (xs (i + 1)) hp hr) (lw_V q254 q255 q256 q22 q257) hdX1_extraWithout (by decide) (by decide) (by decide) hcs hss hKm hPm rfl hl.1 (Nat.le_of_ble_eq_true rfl) dL_law_302 rfl (fun r2 hq2 => ?_)
  refine lv_icmp_eq (tgt := 389) hx hb dL_law_305 (by decide) (fun _ => kn _ _ ⟨p, a, b, ln, u1.1, u1.2, lf, lf', nr, hok, hPx, hPm, hS⟩) (fun q => absurd (sq_wout hok hq1 hq2) q)
set_option maxHeartbeats 4000000 in
set_option maxRecDepth 100000 in
theorem lc_way (S : CallFix P m c code 4 s #[Value.ref bb] lw_all R_law) (hcs : cells ≤ room_1.cells) (hss : slots ≤ room_1.slots) (hX : va_X bb L xs s s.heap) (hbl : bb < s.heap.size) (hG : sw_LG D g k g' k' s) (hi : i + 4 ≤ L) (hL : L ≤ 256) (hSt : sw_LS D g k g' k' s H locs) (hl : lv_has ls 4 [(0, .ref (bb)), (1, .ref (g 0)), (2, .ref (g' 0)), (3, .int (nI (i)))]) (kn : ∀ (H : Heap) (locs : List Loc), sw_LS D g k g' k' s H locs → W P l e room_1 s m #[Value.ref bb] bl mt c H locs cells slots Q (F0 m 389 ls [])) : W P l e room_1 s m #[Value.ref bb] bl mt c H locs cells slots Q (F0 m 310 ls []) := by
  obtain ⟨p, a, b, ln, w, pg, lf, lf', nr, hok, hPx, hPm, hS⟩ := hSt
  obtain ⟨hKx, hKm, hgx, hgm, hap, hlo, hlo'⟩ := hG
  obtain ⟨hx, hb, hml, hown, hts⟩ := id S
  obtain ⟨hp, hr, hne⟩ := id hok
  have hbA : ¬ (fun q : Nat => s.heap.size ≤ q) bb := Nat.not_le.mpr hbl
  refine lv_aload_n hx hb dL_law_310 rfl (lv_at hl 1 rfl) ?_
  refine lv_aload_n hx hb dL_law_311 rfl (lv_at hl 0 rfl) ?_
  refine lv_iload_n hx hb dL_law_312 rfl (lv_at hl 3 rfl) ?_
  refine lv_iconst (v := nI 1) hx hb dL_law_313 (by decide) ?_
  refine sr_add hx hb dL_law_314 ?_
  refine sl_ld hx hb hX hbl hbA hS (by omega) hL dL_law_315 ?_
  refine lv_aload_n hx hb dL_law_316 rfl (lv_at hl 0 rfl) ?_
  refine lv_iload_n hx hb dL_law_317 rfl (lv_at hl 3 rfl) ?_
  refine lv_iconst (v := nI 2) hx hb dL_law_318 (by decide) ?_
  refine sr_add hx hb dL_law_319 ?_
  refine sl_ld hx hb hX hbl hbA hS (by omega) hL dL_law_320 ?_
  refine xk_wi (As := [.int (xs (i + 1)), .int (xs (i + 2))]) (n := 2) S (cX_way l D g k p a b ln w pg lf (xs (i + 1)) (xs (i + 2)) hgx hp hr) (lw_V q133 q134 q135 q21 q136) hdX0_way (by decide) (by decide) (by decide) hcs hss hKx hPx hS (sw_XA_lo hlo) rfl hl.1 (Nat.le_of_ble_eq_true rfl) dL_law_321 rfl (fun r1 u1 H1 locs hq1 hPx hz1 hk1 hS => ?_)
  have hPm := sw_keepM hgm hap hPm hk1
  refine lv_aload_n hx hb dL_law_324 rfl (lv_at hl 2 rfl) ?_
  refine lv_aload_n hx hb dL_law_325 rfl (lv_at hl 0 rfl) ?_
  refine lv_iload_n hx hb dL_law_326 rfl (lv_at hl 3 rfl) ?_
  refine lv_iconst (v := nI 1) hx hb dL_law_327 (by decide) ?_
  refine sr_add hx hb dL_law_328 ?_
  refine sl_ld hx hb hX hbl hbA hS (by omega) hL dL_law_329 ?_
  refine lv_aload_n hx hb dL_law_330 rfl (lv_at hl 0 rfl) ?_
  refine lv_iload_n hx hb dL_law_331 rfl (lv_at hl 3 rfl) ?_
  refine lv_iconst (v := nI 2) hx hb dL_law_332 (by decide) ?_
  refine sr_add hx hb dL_law_333 ?_
  refine sl_ld hx hb hX hbl hbA hS (by omega) hL dL_law_334 ?_
  refine mk_wi (As := [.int (xs (i + 1)), .int (xs (i + 2))]) (n := 2) S (cM_way l D g' k' p a b ln lf' nr (xs (i + 1)) (xs (i + 2)) hgm hp hr) (lw_V q258 q259 q260 q22 q261) hdX1_way (by decide) (by decide) (by decide) hcs hss hKm hPm hS (sw_XA_lo hlo') rfl hl.1 (Nat.le_of_ble_eq_true rfl) dL_law_335 rfl (fun r2 u2 H2 locs hq2 hPm hz2 hk2 hS => ?_)
  have hPx := sw_keepX hgx hap hPx hk2
  refine lv_icmp_eq (tgt := 389) hx hb dL_law_338 (by decide) (fun _ => kn _ _ ⟨p, a, b, ln, u1, pg, lf, lf', u2, hok, hPx, hPm, hS⟩) (fun q => absurd (sq_way hq1 hq2) q)
set_option maxHeartbeats 4000000 in
set_option maxRecDepth 100000 in
theorem lc_walkLength (S : CallFix P m c code 4 s #[Value.ref bb] lw_all R_law) (hcs : cells ≤ room_1.cells) (hss : slots ≤ room_1.slots) (hX : va_X bb L xs s s.heap) (hbl : bb < s.heap.size) (hG : sw_LG D g k g' k' s) (hi : i + 4 ≤ L) (hL : L ≤ 256) (hSt : sw_LS D g k g' k' s H locs) (hl : lv_has ls 4 [(0, .ref (bb)), (1, .ref (g 0)), (2, .ref (g' 0)), (3, .int (nI (i)))]) (kn : ∀ (H : Heap) (locs : List Loc), sw_LS D g k g' k' s H locs → W P l e room_1 s m #[Value.ref bb] bl mt c H locs cells slots Q (F0 m 389 ls [])) : W P l e room_1 s m #[Value.ref bb] bl mt c H locs cells slots Q (F0 m 343 ls []) := by
  obtain ⟨p, a, b, ln, w, pg, lf, lf', nr, hok, hPx, hPm, hS⟩ := hSt
  obtain ⟨hKx, hKm, hgx, hgm, hap, hlo, hlo'⟩ := hG
  obtain ⟨hx, hb, hml, hown, hts⟩ := id S
  obtain ⟨hp, hr, hne⟩ := id hok
  have hbA : ¬ (fun q : Nat => s.heap.size ≤ q) bb := Nat.not_le.mpr hbl
  refine lv_aload_n hx hb dL_law_343 rfl (lv_at hl 1 rfl) ?_
  refine xk_wi (As := []) (n := 0) S (cX_walkLength l D g k p a b ln w pg lf  hgx hp hr hne) (lw_V q137 q138 q139 q21 q140) hdX0_walkLength (by decide) (by decide) (by decide) hcs hss hKx hPx hS (sw_XA_lo hlo) rfl hl.1 (Nat.le_of_ble_eq_true rfl) dL_law_344 rfl (fun r1 u1 H1 locs hq1 hPx hz1 hk1 hS => ?_)
  have hPm := sw_keepM hgm hap hPm hk1
  refine lv_aload_n hx hb dL_law_347 rfl (lv_at hl 2 rfl) ?_
  refine mc_ro (As := []) (n := 0) S (cM_walkLength l D g' k' p a b ln lf' nr  hp hr) (lw_V q262 q263 q264 q22 q265) hdX1_walkLength (by decide) (by decide) (by decide) hcs hss hKm hPm rfl hl.1 (Nat.le_of_ble_eq_true rfl) dL_law_348 rfl (fun r2 hq2 => ?_)
  refine lv_icmp_eq (tgt := 389) hx hb dL_law_351 (by decide) (fun _ => kn _ _ ⟨p, a, b, ln, u1.1, u1.2, lf, lf', nr, hok, hPx, hPm, hS⟩) (fun q => absurd (sq_wl hok hq1 hq2) q)
set_option maxHeartbeats 4000000 in
set_option maxRecDepth 100000 in
theorem lc_walkAt (S : CallFix P m c code 4 s #[Value.ref bb] lw_all R_law) (hcs : cells ≤ room_1.cells) (hss : slots ≤ room_1.slots) (hX : va_X bb L xs s s.heap) (hbl : bb < s.heap.size) (hG : sw_LG D g k g' k' s) (hi : i + 4 ≤ L) (hL : L ≤ 256) (hSt : sw_LS D g k g' k' s H locs) (hl : lv_has ls 4 [(0, .ref (bb)), (1, .ref (g 0)), (2, .ref (g' 0)), (3, .int (nI (i)))]) (kn : ∀ (H : Heap) (locs : List Loc), sw_LS D g k g' k' s H locs → W P l e room_1 s m #[Value.ref bb] bl mt c H locs cells slots Q (F0 m 389 ls [])) : W P l e room_1 s m #[Value.ref bb] bl mt c H locs cells slots Q (F0 m 356 ls []) := by
  obtain ⟨p, a, b, ln, w, pg, lf, lf', nr, hok, hPx, hPm, hS⟩ := hSt
  obtain ⟨hKx, hKm, hgx, hgm, hap, hlo, hlo'⟩ := hG
  obtain ⟨hx, hb, hml, hown, hts⟩ := id S
  obtain ⟨hp, hr, hne⟩ := id hok
  have hbA : ¬ (fun q : Nat => s.heap.size ≤ q) bb := Nat.not_le.mpr hbl
  refine lv_aload_n hx hb dL_law_356 rfl (lv_at hl 1 rfl) ?_
  refine lv_aload_n hx hb dL_law_357 rfl (lv_at hl 0 rfl) ?_
  refine lv_iload_n hx hb dL_law_358 rfl (lv_at hl 3 rfl) ?_
  refine lv_iconst (v := nI 1) hx hb dL_law_359 (by decide) ?_
  refine sr_add hx hb dL_law_360 ?_
  refine sl_ld hx hb hX hbl hbA hS (by omega) hL dL_law_361 ?_
  refine lv_aload_n hx hb dL_law_362 rfl (lv_at hl 0 rfl) ?_
  refine lv_iload_n hx hb dL_law_363 rfl (lv_at hl 3 rfl) ?_
  refine lv_iconst (v := nI 2) hx hb dL_law_364 (by decide) ?_
  refine sr_add hx hb dL_law_365 ?_
  refine sl_ld hx hb hX hbl hbA hS (by omega) hL dL_law_366 ?_
  refine xk_wi (As := [.int (xs (i + 1)), .int (xs (i + 2))]) (n := 2) S (cX_walkAt l D g k p a b ln w pg lf (xs (i + 1)) (xs (i + 2)) hgx hp hr hne) (lw_V q143 q144 q145 q21 q146) hdX0_walkAt (by decide) (by decide) (by decide) hcs hss hKx hPx hS (sw_XA_lo hlo) rfl hl.1 (Nat.le_of_ble_eq_true rfl) dL_law_367 rfl (fun r1 u1 H1 locs hq1 hPx hz1 hk1 hS => ?_)
  have hPm := sw_keepM hgm hap hPm hk1
  refine lv_aload_n hx hb dL_law_370 rfl (lv_at hl 2 rfl) ?_
  refine lv_aload_n hx hb dL_law_371 rfl (lv_at hl 0 rfl) ?_
  refine lv_iload_n hx hb dL_law_372 rfl (lv_at hl 3 rfl) ?_
  refine lv_iconst (v := nI 1) hx hb dL_law_373 (by decide) ?_
  refine sr_add hx hb dL_law_374 ?_
  refine sl_ld hx hb hX hbl hbA hS (by omega) hL dL_law_375 ?_
  refine lv_aload_n hx hb dL_law_376 rfl (lv_at hl 0 rfl) ?_
  refine lv_iload_n hx hb dL_law_377 rfl (lv_at hl 3 rfl) ?_
  refine lv_iconst (v := nI 2) hx hb dL_law_378 (by decide) ?_
  refine sr_add hx hb dL_law_379 ?_
  refine sl_ld hx hb hX hbl hbA hS (by omega) hL dL_law_380 ?_
  refine mk_wi (As := [.int (xs (i + 1)), .int (xs (i + 2))]) (n := 2) S (cM_walkAt l D g' k' p a b ln lf' nr (xs (i + 1)) (xs (i + 2)) hgm hp hr) (lw_V q268 q269 q270 q22 q271) hdX1_walkAt (by decide) (by decide) (by decide) hcs hss hKm hPm hS (sw_XA_lo hlo') rfl hl.1 (Nat.le_of_ble_eq_true rfl) dL_law_381 rfl (fun r2 u2 H2 locs hq2 hPm hz2 hk2 hS => ?_)
  have hPx := sw_keepX hgx hap hPx hk2
  refine lv_icmp_eq (tgt := 389) hx hb dL_law_384 (by decide) (fun _ => kn _ _ ⟨p, a, b, ln, u1.1, u1.2.1, u1.2.2, u2, nr, hok, hPx, hPm, hS⟩) (fun q => absurd (sq_wa hok hq1 hq2) q)
end SWL
end
section
/-! THE LAW: its loop -/
theorem sl_gt {L i : Nat} (hL : L ≤ 256) (hi : i ≤ L) : Int32.ofNat L - nI 4 < nI i ↔ L < i + 4 := by
  show nI L - nI 4 < nI i ↔ L < i + 4
  rw [Int32.lt_iff_toInt_lt, pk_sub_toInt (by omega) (by omega), nI_toInt (by omega)]
  omega
set_option maxHeartbeats 4000000 in
set_option maxRecDepth 100000 in
theorem lw_loop {P : Program} {e : Env} {s : State} {m : MethodId} {bl : List Frame} {mt : Method} {c : Code} {bb L : Nat} {xs : Nat → Int32} {D : va_G} {g g' : Nat → Nat} {k k' : Nat → ClassId} (l : Launch) (hL : L ≤ 256) (C0 : lw_At P s m mt c bb L xs) (hG : sw_LG D g k g' k' s) :
    ∀ (n i : Nat), i ≤ L → L + 1 ≤ i + n → ∀ (H : Heap) (locs : List Loc), sw_LS D g k g' k' s H locs → ∀ (ls : Array Slot), lv_has ls 4 [(0, .ref bb), (1, .ref (g 0)), (2, .ref (g' 0)), (3, .int (nI i))] → W P l e room_1 s m #[Value.ref bb] bl mt c H locs 14 209 (lw_Z bl #[Value.ref bb] s) (F0 m 18 ls []) := by
  obtain ⟨hx, hb, hr, hml, hown, hts0, hX, hbl, hlocks, hgv⟩ := id C0
  have hts : ∀ w ∈ lw_all, w.before #[Value.ref bb] s = true := fun w h => hts0 w (lw_all_tbl h)
  have S : CallFix P m c code 4 s #[Value.ref bb] lw_all R_law := ⟨hx, hb, hml, hown, hts⟩
  have hbA : ¬ (fun q : Nat => s.heap.size ≤ q) bb := Nat.not_le.mpr hbl
  intro n
  induction n with
  | zero => intro i h1 h2; exact absurd h2 (by omega)
  | succ n ih =>
    intro i hi hn H locs hSt ls hl
    have hS : va_S (fun q : Nat => s.heap.size ≤ q) s.heap H locs := by
      obtain ⟨_, _, _, _, _, _, _, _, _, _, _, _, h⟩ := hSt
      exact h
    refine lv_iload_n hx hb dL_law_18 rfl (lv_at hl 3 rfl) ?_
    refine lv_aload_n hx hb dL_law_19 rfl (lv_at hl 0 rfl) ?_
    refine va_slen hx hb hX hbl hbA hS dL_law_20 ?_
    refine lv_iconst (v := nI 4) hx hb dL_law_21 (by decide) ?_
    refine lv_isub hx hb dL_law_22 ?_
    refine lv_icmp_gt (tgt := 395) hx hb dL_law_23 (by decide) (fun cg => ?_) (fun cg => ?_)
    · refine lv_iconst (v := 1) hx hb dL_law_395 (by decide) ?_
      refine va_forget hS.2.2 ?_
      refine W.widen (k := 600000) (n := 7290000) (by decide) (by decide) ?_
      exact lw_ret hx hb hr hlocks dL_law_396
    · have hi4 : i + 4 ≤ L := by
        rw [sl_gt hL hi] at cg
        omega
      have kn : ∀ (H : Heap) (locs : List Loc), sw_LS D g k g' k' s H locs → W P l e room_1 s m #[Value.ref bb] bl mt c H locs 14 209 (lw_Z bl #[Value.ref bb] s) (F0 m 389 ls []) := by
        intro H locs hSt
        refine lv_iinc (v := nI (i + 4)) (lv' := [(3, .int (nI (i + 4))), (0, .ref bb), (1, .ref (g 0)), (2, .ref (g' 0))]) hx hb dL_law_389 hl (k := 3) rfl (nI_add i 4) (by decide) rfl (fun ls hl => ?_)
        refine lv_goto (tgt := 18) hx hb dL_law_392 (by decide) ?_
        exact ih (i + 4) (by omega) (by omega) H locs hSt ls (lv_sub hl [1, 2, 3, 0] rfl)
      refine lv_aload_n hx hb dL_law_26 rfl (lv_at hl 0 rfl) ?_
      refine lv_iload_n hx hb dL_law_27 rfl (lv_at hl 3 rfl) ?_
      refine sl_ld hx hb hX hbl hbA hS (by omega) hL dL_law_28 ?_
      refine lv_bipush (v := nI 15) hx hb dL_law_29 (by decide) ?_
      refine lv_iand hx hb dL_law_31 ?_
      obtain ⟨j, hj, ej⟩ := pk_andE (xs i) 4 (m := nI 15) (by decide)
      rw [ej]
      rcases (show j = 0 ∨ j = 1 ∨ j = 2 ∨ j = 3 ∨ j = 4 ∨ j = 5 ∨ j = 6 ∨ j = 7 ∨ j = 8 ∨ j = 9 ∨ j = 10 ∨ j = 11 ∨ j = 12 ∨ 13 ≤ j by omega) with rfl | rfl | rfl | rfl | rfl | rfl | rfl | rfl | rfl | rfl | rfl | rfl | rfl | hj13
      · refine lv_tableIn (off := 68) (tgt := 100) hx hb dL_law_32 (by decide) (by decide) (by decide) (by decide) ?_
        exact lc_build S (by decide) (by decide) hX hbl hG hi4 hL hSt hl kn
      · refine lv_tableIn (off := 111) (tgt := 143) hx hb dL_law_32 (by decide) (by decide) (by decide) (by decide) ?_
        exact lc_close S (by decide) (by decide) hX hbl hG hi4 hL hSt hl kn
      · refine lv_tableIn (off := 134) (tgt := 166) hx hb dL_law_32 (by decide) (by decide) (by decide) (by decide) ?_
        exact lc_setLength S (by decide) (by decide) hX hbl hG hi4 hL hSt hl kn
      · refine lv_tableIn (off := 167) (tgt := 199) hx hb dL_law_32 (by decide) (by decide) (by decide) (by decide) ?_
        exact lc_streets S (by decide) (by decide) hX hbl hG hi4 hL hSt hl kn
      · refine lv_tableIn (off := 180) (tgt := 212) hx hb dL_law_32 (by decide) (by decide) (by decide) (by decide) ?_
        exact lc_odd S (by decide) (by decide) hX hbl hG hi4 hL hSt hl kn
      · refine lv_tableIn (off := 193) (tgt := 225) hx hb dL_law_32 (by decide) (by decide) (by decide) (by decide) ?_
        exact lc_connected S (by decide) (by decide) hX hbl hG hi4 hL hSt hl kn
      · refine lv_tableIn (off := 206) (tgt := 238) hx hb dL_law_32 (by decide) (by decide) (by decide) (by decide) ?_
        exact lc_extra S (by decide) (by decide) hX hbl hG hi4 hL hSt hl kn
      · refine lv_tableIn (off := 219) (tgt := 251) hx hb dL_law_32 (by decide) (by decide) (by decide) (by decide) ?_
        exact lc_bestSet S (by decide) (by decide) hX hbl hG hi4 hL hSt hl kn
      · refine lv_tableIn (off := 232) (tgt := 264) hx hb dL_law_32 (by decide) (by decide) (by decide) (by decide) ?_
        exact lc_extraWith S (by decide) (by decide) hX hbl hG hi4 hL hSt hl kn
      · refine lv_tableIn (off := 255) (tgt := 287) hx hb dL_law_32 (by decide) (by decide) (by decide) (by decide) ?_
        exact lc_extraWithout S (by decide) (by decide) hX hbl hG hi4 hL hSt hl kn
      · refine lv_tableIn (off := 278) (tgt := 310) hx hb dL_law_32 (by decide) (by decide) (by decide) (by decide) ?_
        exact lc_way S (by decide) (by decide) hX hbl hG hi4 hL hSt hl kn
      · refine lv_tableIn (off := 311) (tgt := 343) hx hb dL_law_32 (by decide) (by decide) (by decide) (by decide) ?_
        exact lc_walkLength S (by decide) (by decide) hX hbl hG hi4 hL hSt hl kn
      · refine lv_tableIn (off := 324) (tgt := 356) hx hb dL_law_32 (by decide) (by decide) (by decide) (by decide) ?_
        exact lc_walkAt S (by decide) (by decide) hX hbl hG hi4 hL hSt hl kn
      · refine lv_tableOut (tgt := 389) hx hb dL_law_32 (Or.inr (by rw [nI_toInt (by omega)]; omega)) (by decide) ?_
        exact kn H locs hSt
end
section
/-! THE LAW, from its entry -/
theorem sw_apart {A : Nat → Prop} {g g' : Nat → Nat} {k k' : Nat → ClassId} {p p' : Nat} {a b ln w pg lf a' b' ln' lf' nr' : Nat → Nat} (h : va_D A (sw_xw g k p a b ln w pg lf ++ sw_mw g' k' p' a' b' ln' lf' nr')) : ∀ i j, i < 7 → j < 7 → g i ≠ g' j := by
  have k1 : ∀ i, i < 7 → ∃ x, (sw_xw g k p a b ln w pg lf ++ sw_mw g' k' p' a' b' ln' lf' nr')[i]? = some (g i, x) := by
    intro i hi
    match i, hi with
    | 0, _ => exact ⟨_, rfl⟩
    | 1, _ => exact ⟨_, rfl⟩
    | 2, _ => exact ⟨_, rfl⟩
    | 3, _ => exact ⟨_, rfl⟩
    | 4, _ => exact ⟨_, rfl⟩
    | 5, _ => exact ⟨_, rfl⟩
    | 6, _ => exact ⟨_, rfl⟩
    | n + 7, hi => omega
  have k2 : ∀ j, j < 7 → ∃ x, (sw_xw g k p a b ln w pg lf ++ sw_mw g' k' p' a' b' ln' lf' nr')[7 + j]? = some (g' j, x) := by
    intro i hi
    match i, hi with
    | 0, _ => exact ⟨_, rfl⟩
    | 1, _ => exact ⟨_, rfl⟩
    | 2, _ => exact ⟨_, rfl⟩
    | 3, _ => exact ⟨_, rfl⟩
    | 4, _ => exact ⟨_, rfl⟩
    | 5, _ => exact ⟨_, rfl⟩
    | 6, _ => exact ⟨_, rfl⟩
    | n + 7, hi => omega
  intro i j hi hj e
  obtain ⟨x, hx⟩ := k1 i hi
  obtain ⟨y, hy⟩ := k2 j hj
  have := h.1 i (7 + j) _ _ hx hy e
  omega
set_option maxHeartbeats 4000000 in
set_option maxRecDepth 100000 in
/-- THE LAW, from its entry -/
theorem whole_start {p : Program} {e : Env} {s : State} {m : MethodId} {below : List Frame} {meth : Method} {c : Code} (l : Launch) {b L : Nat} {xs : Nat → Int32} (hL : L ≤ 256) (C0 : lw_At p s m meth c b L xs) : W p l e room_1 s m #[Value.ref b] below meth c s.heap [] 0 0 (lw_Z below #[Value.ref b] s) (entryFrame m ([Value.ref b] : List Value).toArray 4) := by
  obtain ⟨hx, hb, hr, hml, hown, hts0, hX, hbl, hlocks, hgv⟩ := id C0
  have hts : ∀ w ∈ lw_all, w.before #[Value.ref b] s = true := fun w h => hts0 w (lw_all_tbl h)
  have hA : ∀ q : Nat, s.heap.size ≤ q → (fun q : Nat => s.heap.size ≤ q) q := fun _ h => h
  obtain ⟨c0, iS0, hKn0⟩ := u_known (C := RX0) (T := TX0) (N := 7) (n := 7) hts in_X0 (hts _ q24)
  obtain ⟨c1, iS1, hKn1⟩ := u_known (C := RX1) (T := TX1) (N := 6) (n := 6) hts in_X1 (hts _ q158)
  obtain ⟨D, hKc⟩ : ∃ D : va_G, ∀ (k : Nat) (q : vw_C), sw_cl[k]? = some q → u_Kn s q.1 q.2.1 q.2.2 (D.1 k) (D.2 k) := by
    refine ⟨(fun k => if k = 0 then c0 else c1, fun k => if k = 0 then iS0 else iS1), ?_⟩
    intro k q hq
    match k, hq with
    | 0, hq => cases hq; exact hKn0
    | 1, hq => cases hq; exact hKn1
    | k + 2, hq => simp [sw_cl] at hq
  have hS : va_S (fun q : Nat => s.heap.size ≤ q) s.heap s.heap [] := va_S.rf
  have hK : va_K D sw_cl [] s := ⟨hKc, fun k q h => by simp at h⟩
  have hP : va_P D sw_cl [] s.heap := fun k q h => by simp at h
  have hD : va_D (fun q : Nat => s.heap.size ≤ q) [] := ⟨fun i j p q h => by simp at h, fun k q h => by simp at h⟩
  have hl := lv_entry ([.ref b]) (n := 4) (Nat.le_of_ble_eq_true rfl)
  rw [lg_entry_eq]
  generalize (lg_sl ([.ref b]) ++ List.replicate (4 - (lg_sl ([.ref b])).length) Slot.unset).toArray = ls at hl ⊢
  have hl : lv_has ls 4 [(0, .ref b)] := hl
  refine va_new (ci := 0) (fs := [.int (nI 0), .null, .null, .null, .null, .null, .null]) (C := RX0) (T := TX0) (N := 7) hx hb hts in_X0 tyX0 tyX0_ok hown (hts _ q23) (hts _ q24) (hts _ q21) hK hP hD hS hA rfl (fun j hj => by rcases (show j = 0 ∨ j = 1 ∨ j = 2 ∨ j = 3 ∨ j = 4 ∨ j = 5 ∨ j = 6 by omega) with rfl | rfl | rfl | rfl | rfl | rfl | rfl <;> rfl) (Nat.le_of_ble_eq_true rfl) (Nat.le_of_ble_eq_true rfl) dL_law_0 (fun qx H hP hD hS => ?_)
  have hP : va_P D sw_cl [(qx, .inr (0, [.int (nI 0), .null, .null, .null, .null, .null, .null]))] H := hP
  have hD : va_D (fun q : Nat => s.heap.size ≤ q) [(qx, .inr (0, [.int (nI 0), .null, .null, .null, .null, .null, .null]))] := hD
  refine W.widen (k := 1) (n := 7) (by decide) (by decide) ?_
  refine lv_dup hx hb dL_law_3 rfl ?_
  have hPc := hP.sub (ws' := [(qx, .inr (0, [.int (nI 0), .null, .null, .null, .null, .null, .null]))]) [0] rfl
  have hDc := hD.sub (ws' := [(qx, .inr (0, [.int (nI 0), .null, .null, .null, .null, .null, .null]))]) [0] (by decide) rfl
  have hKc := hK.sub (tys' := []) [] rfl
  have hFc := va_free (wc := [(qx, .inr (0, [.int (nI 0), .null, .null, .null, .null, .null, .null]))]) hD hS hA [0] rfl
  refine va_callv (va_runI (As := []) (rest := [.ref qx]) ⟨hx, hb, hml, hown, hts⟩ (cX_init l D qx H.size) (cwI 0 hts (lw_meth q27) rfl rfl rfl (hts _ q21) (hts _ q25) (hts _ q26) rfl (by decide +kernel) ⟨Nat.le_of_ble_eq_true rfl, Nat.le_of_ble_eq_true rfl⟩) ⟨fun a U g mk q => by obtain ⟨q0, q1, qP, qK, qD⟩ := q; exact ⟨q0, q1, qP, va_K.moved (u := U) (U := U.calling g mk a) (Vm.Alike.refl U.vm) qK, qD⟩, fun U hU hW => ⟨rfl, by rw [hU], by rw [hU]; exact hPc, va_K.moved hW.alike hKc, hDc.weaken (fun _ _ _ _ => trivial)⟩⟩ rfl rfl hl.1 rfl (lv_room (Nat.le_of_ble_eq_true rfl)) dL_law_4 ⟨Nat.le_of_ble_eq_true rfl, Nat.le_of_ble_eq_true rfl⟩) hS (fun q _ h => hFc q h) hFc (fun u t H1 locs ht hvm hw hB hz1 hk1 hS => ?_)
  obtain ⟨g, k, hg0, hK1, hP1, hD1⟩ := hB
  rw [ht] at hP1
  have hK1 := va_K.moved hvm.symm hK1
  obtain ⟨hP, hD⟩ := va_join (wr := []) (w1 := sw_xw g k 0 (fun _ => 0) (fun _ => 0) (fun _ => 0) (fun _ => 0) (fun _ => 0) (fun _ => 0)) hP hD [0] [] rfl rfl (by decide) (by decide) hk1 hFc hP1 hD1
  have hK := (hK.sub (tys' := []) [] rfl).app hK1
  generalize H1 = H at hP hS ⊢
  have hP : va_P D sw_cl (sw_xw g k 0 (fun _ => 0) (fun _ => 0) (fun _ => 0) (fun _ => 0) (fun _ => 0) (fun _ => 0)) H := hP
  have hD : va_D (fun q : Nat => s.heap.size ≤ q) (sw_xw g k 0 (fun _ => 0) (fun _ => 0) (fun _ => 0) (fun _ => 0) (fun _ => 0) (fun _ => 0)) := hD
  have hK : va_K D sw_cl (sw_xt k) s := hK
  refine W.widen (k := 7) (n := 147) (by decide) (by decide) ?_
  refine lv_astore_n (lv' := [(1, .ref qx), (0, .ref b)]) hx hb dL_law_7 rfl hl (by decide) rfl (fun ls hl => ?_)
  refine va_new (ci := 1) (fs := [.null, .null, .null, .null, .null, .null]) (C := RX1) (T := TX1) (N := 6) hx hb hts in_X1 tyX1 tyX1_ok hown (hts _ q157) (hts _ q158) (hts _ q22) hK hP hD hS hA rfl (fun j hj => by rcases (show j = 0 ∨ j = 1 ∨ j = 2 ∨ j = 3 ∨ j = 4 ∨ j = 5 by omega) with rfl | rfl | rfl | rfl | rfl | rfl <;> rfl) (Nat.le_of_ble_eq_true rfl) (Nat.le_of_ble_eq_true rfl) dL_law_8 (fun qm H hP hD hS => ?_)
  refine W.widen (k := 8) (n := 153) (by decide) (by decide) ?_
  refine lv_dup hx hb dL_law_11 rfl ?_
  have hPc := hP.sub (ws' := [(qm, .inr (1, [.null, .null, .null, .null, .null, .null]))]) [7] rfl
  have hDc := hD.sub (ws' := [(qm, .inr (1, [.null, .null, .null, .null, .null, .null]))]) [7] (by decide) rfl
  have hKc := hK.sub (tys' := []) [] rfl
  have hFc := va_free (wc := [(qm, .inr (1, [.null, .null, .null, .null, .null, .null]))]) hD hS hA [7] rfl
  refine va_callv (va_runI (As := []) (rest := [.ref qm]) ⟨hx, hb, hml, hown, hts⟩ (cM_init l D qm H.size) (cwI 0 hts (lw_meth q161) rfl rfl rfl (hts _ q22) (hts _ q159) (hts _ q160) rfl (by decide +kernel) ⟨Nat.le_of_ble_eq_true rfl, Nat.le_of_ble_eq_true rfl⟩) ⟨fun a U g mk q => by obtain ⟨q0, q1, qP, qK, qD⟩ := q; exact ⟨q0, q1, qP, va_K.moved (u := U) (U := U.calling g mk a) (Vm.Alike.refl U.vm) qK, qD⟩, fun U hU hW => ⟨rfl, by rw [hU], by rw [hU]; exact hPc, va_K.moved hW.alike hKc, hDc.weaken (fun _ _ _ _ => trivial)⟩⟩ rfl rfl hl.1 rfl (lv_room (Nat.le_of_ble_eq_true rfl)) dL_law_12 ⟨Nat.le_of_ble_eq_true rfl, Nat.le_of_ble_eq_true rfl⟩) hS (fun q _ h => hFc q h) hFc (fun u t H1 locs ht hvm hw hB hz1 hk1 hS => ?_)
  obtain ⟨g', k', hg0', hK1, hP1, hD1⟩ := hB
  rw [ht] at hP1
  have hK1 := va_K.moved hvm.symm hK1
  obtain ⟨hP, hD⟩ := va_join (wr := sw_xw g k 0 (fun _ => 0) (fun _ => 0) (fun _ => 0) (fun _ => 0) (fun _ => 0) (fun _ => 0)) (w1 := sw_mw g' k' 0 (fun _ => 0) (fun _ => 0) (fun _ => 0) (fun _ => 0) (fun _ => 0)) hP hD [7] [0, 1, 2, 3, 4, 5, 6] rfl rfl (by decide) (by decide) hk1 hFc hP1 hD1
  have hK := (hK.sub (tys' := sw_xt k) [0, 1, 2, 3, 4, 5] rfl).app hK1
  generalize H1 = H at hP hS ⊢
  refine W.widen (k := 14) (n := 209) (by decide) (by decide) ?_
  refine lv_astore_n (lv' := [(2, .ref qm), (1, .ref qx), (0, .ref b)]) hx hb dL_law_15 rfl hl (by decide) rfl (fun ls hl => ?_)
  refine lv_iconst (v := nI 0) hx hb dL_law_16 (by decide) ?_
  refine lv_istore_n (lv' := [(3, .int (nI 0)), (2, .ref qm), (1, .ref qx), (0, .ref b)]) hx hb dL_law_17 rfl hl (by decide) rfl (fun ls hl => ?_)
  have hDx : va_D (fun q : Nat => s.heap.size ≤ q) (sw_xw g k 0 (fun _ => 0) (fun _ => 0) (fun _ => 0) (fun _ => 0) (fun _ => 0) (fun _ => 0)) := hD.sub [0, 1, 2, 3, 4, 5, 6] (by decide) rfl
  have hDm : va_D (fun q : Nat => s.heap.size ≤ q) (sw_mw g' k' 0 (fun _ => 0) (fun _ => 0) (fun _ => 0) (fun _ => 0) (fun _ => 0)) := hD.sub [7, 8, 9, 10, 11, 12, 13] (by decide) rfl
  have hPx : sw_XP D g k 0 (fun _ => 0) (fun _ => 0) (fun _ => 0) (fun _ => 0) (fun _ => 0) (fun _ => 0) H := hP.sub [0, 1, 2, 3, 4, 5, 6] rfl
  have hPm : sw_MP D g' k' 0 (fun _ => 0) (fun _ => 0) (fun _ => 0) (fun _ => 0) (fun _ => 0) H := hP.sub [7, 8, 9, 10, 11, 12, 13] rfl
  have hKx : sw_XK D k s := hK.sub [0, 1, 2, 3, 4, 5] rfl
  have hKm : sw_MK D k' s := hK.sub [6, 7, 8, 9, 10, 11] rfl
  have hap := sw_apart hD
  have hS9 := hS
  have hl9 := hl
  subst hg0
  subst hg0'
  exact lw_loop l hL C0 ⟨hKx, hKm, (sw_xD_inv hDx).1, (sw_mD_inv hDm).1, hap, (sw_xD_inv hDx).2, (sw_mD_inv hDm).2⟩ (L + 1) 0 (Nat.zero_le L) (by omega) H _ ⟨0, (fun _ => 0), (fun _ => 0), (fun _ => 0), (fun _ => 0), (fun _ => 0), (fun _ => 0), (fun _ => 0), (fun _ => 0), sw_ok_0, hPx, hPm, hS9⟩ ls (lv_sub hl9 [3, 2, 1, 0] rfl)
end
section
set_option maxRecDepth 100000
set_option maxHeartbeats 4000000 in
theorem lw_walk (l : Launch) (b : Addr) (xs : List Int32) : MetFree l x (headSpec (Jvm.Cond.code x code maxLocals ret :: tables_1) room_1) (lw_P b xs) (fun _ _ _ _ _ => True) lw_Q := by
  refine MetFree.of_bodyS (code := code) (maxLocals := maxLocals) (ret := ret) (by decide) ?_ ?_
  · intro args s m h hn
    obtain ⟨meth, c, h1, h2, h3, h4, h5, h6, -, -⟩ := Cond.code_spec hn (atoms_spec (ws := Jvm.Cond.code x code maxLocals ret :: tables_1) h _ List.mem_cons_self)
    exact ⟨meth, c, h1, h2, h3, h4, h5, h6⟩
  · intro p e s m args below meth c s₁ B hml0 hP _
    obtain ⟨rfl, hx, hbd, hgv⟩ := hP
    obtain ⟨scr, harrAt, hlist, hof, hsmall⟩ := hx
    obtain ⟨hcb, hkn, -, -⟩ := State.arrayAt?_spec harrAt
    have hown : s.vm.findClass R_law = some m.cls := findClass_of_methodNamed B.named
    have hts0 : ∀ c ∈ (Jvm.Cond.code x code maxLocals ret :: tables_1), c.before #[Value.ref b] s = true := atoms_spec (ws := Jvm.Cond.code x code maxLocals ret :: tables_1) B.pre
    have hts : ∀ w ∈ lw_tbl, w.before #[Value.ref b] s = true := k2_hts_sels lw_privs (fun w hw => hts0 w (List.mem_cons_of_mem _ hw)) lw_privs_ok
    have hml : c.maxLocals = 4 := B.maxLocals_eq (hts0 _ List.mem_cons_self)
    have X₀ : Stand p l e room_1 s m #[Value.ref b] below meth c s₁ [] 0 0 := Stand.of_body B
    have hh0 : s₁.heap = s.heap := by rw [B.state]; rfl
    have hsz : scr.slots.size = xs.length := by rw [← Array.length_toList, hlist, List.length_map]
    have hval : ∀ j : Nat, j < xs.length → scr.slots[j]? = some (.int (xs.getD j 0)) := fun j hj => by
      rw [← Array.getElem?_toList, hlist]
      simp [hj]
    have hbl : b < s.heap.size := (Array.getElem?_eq_some_iff.mp hcb).1
    have hX : va_X b xs.length (fun j => xs.getD j 0) s s.heap := ⟨scr, hcb, hof, hkn, hsz, hval⟩
    have K : W p l e room_1 s m #[Value.ref b] below meth c s₁.heap [] 0 0 (lw_Z below #[Value.ref b] s) (entryFrame m ([Value.ref b] : List Value).toArray 4) := by
      rw [hh0]
      exact whole_start l hbd ⟨B.exec, B.bytes, B.returns, hml, hown, hts, hX, hbl, B.notSynchronized, hgv⟩
    obtain ⟨t, a1, o, b1, b2, b3⟩ := K s₁ rfl X₀
    exact ⟨t, o, a1, b1, b2, b3⟩
theorem lw_pre_spec {args : Array Value} {s : State} (h : (Jvm.Cond.and given_1 narrow_1).before args s = true) (hr : rest_1_c.before args s = true) : ∃ (b : Addr) (xs : List Int32), lw_P b xs args s := by
  have hs := flat_of_before _ h
  have hq := flat_of_before _ hr
  have hc : (Cond.count 1).before args s = true := hs _ (by decide +kernel)
  have harr : (Cond.arrayOf (.arg 0) .int).before args s = true := hs _ (by decide +kernel)
  have hle : (Cond.le (.length (.arg 0)) (.int 256)).before args s = true := hs _ (by decide +kernel)
  have hlen : (Cond.isInt (.length (.arg 0))).before args s = true := hq _ (by decide +kernel)
  have hall : (Cond.all (.arg 0) (.isInt (.elem (.arg 0) (.index 0)))).before args s = true := hq _ (by decide +kernel)
  obtain ⟨b, xs, hb, hx⟩ := State.ints_of_pre rfl harr hlen hall
  have hsm : xs.length < 2 ^ 31 := hx.choose_spec.2.2.2
  have hev : (Term.length (.arg 0)).eval args s none [] s = some (.int xs.length.toInt32) := hx.length_eval hb
  have hv := Cond.le_ints hev (show (Term.int 256).eval args s none [] s = some (.int 256) from rfl)
  have hd : xs.length.toInt32 ≤ 256 := by
    simpa [Cond.before, Cond.holds, hv] using hle
  have hN : xs.length ≤ 256 := (Int32.ofNat_le_ofNat hsm (by decide)).mp (show Int32.ofNat xs.length ≤ Int32.ofNat 256 from hd)
  exact ⟨b, xs, Cond.one_arg hc (show args[0]? = some (.ref b) from hb), hx, hN, h⟩
theorem lw_comes (l : Launch) : Comes l x (Jvm.Cond.code x code maxLocals ret :: tables_1) room_1 (fun tb e args s => Calls_1 tb e args s ∧ rest_1 tb e args s ∧ Pre_1 tb e args s)
    (fun _ _ args s o t => lw_Q args s o t) := by
  intro p e ha hc hk s m args below hf hfit hheap happ hpre
  obtain ⟨b, xs, hP⟩ := lw_pre_spec hpre.2.2 hpre.2.1
  obtain ⟨k, o, h1, h2, h3, hQ⟩ := lw_walk l b xs p e ha hc hk s m args below hf ((Spec.applies_iff_loose hf).mp happ).1 hP trivial
  exact ⟨k, o, h1, h2, h3, hQ⟩
theorem lw_frame {s t : State} {o : Outcome} {args : Array Value} (h : Framed s o t [] 600000 7290000) :
    Framed s o t (fieldLocs frame_1_writes args s ++ arrayLocs frame_1_arrays args s ++ staticLocs frame_1_statics s) 600000 7290000 := h
theorem lw_limb (L : Cond) (hL : ∀ (args : Array Value) (s t : State), L.after args s (.returned (some (.int 1))) t = true) :
    ArmFor flags0 classFile x code maxLocals ret World_1 tables_1 room_1 Calls_1 rest_1 Pre_1
      (fun tb e a s o t => postC L tb e a s o t ∧ Framed s o t (fieldLocs frame_1_writes a s ++ arrayLocs frame_1_arrays a s ++ staticLocs frame_1_statics s) 600000 7290000) := by
  intro l _ _ _ p e ha hc hk s m args below hf hfit hheap happ hpre
  obtain ⟨k, o, h1, h2, h3, rfl, hF⟩ := lw_comes l p e ha hc hk s m args below hf hfit hheap happ hpre
  exact ⟨k, _, h1, h2, h3, hL args s _, lw_frame hF⟩
theorem i_vc : Claimed_1_1 ∧ Claimed_1_2 := ⟨lw_limb limb_1_1 (fun args s t => by simp [limb_1_1, Cond.after, Cond.holds, Cond.value]), lw_limb limb_1_2 (fun args s t => Cond.after_iff.mpr (by
  first | (rw [show limb_1_2 = Cond.eq .result (.int 1) from rfl, Cond.eq_ints (x := 1) (y := 1) rfl rfl]; simp; done) | (simp [limb_1_2, Cond.value, Term.eval]; done)))⟩
end
