section
-- ===== PART A: goes FIRST, ahead of the names: the tables' words, and 'selects' of the private methods out of them =====
/-- a private method of a class that the tables say can be made, by its rows of tables_1 -/
def lw_okq (q : MethodName × Nat) : Prop := (q.1.cls ≠ "java/lang/invoke/MethodHandle" ∧ q.1.cls ≠ "java/lang/invoke/VarHandle") ∧ Cond.instantiable q.1.cls q.2 ∈ tables_1 ∧ Cond.privateMethod q.1 ∈ tables_1 ∧ Cond.instanceMethod q.1 ∈ tables_1
set_option maxRecDepth 100000
theorem lw_t1 {w : Cond} (h : w ∈ tables_1_1) : w ∈ tables_1 := List.mem_append_left _ h
theorem lw_t2 {w : Cond} (h : w ∈ tables_1_2) : w ∈ tables_1 := List.mem_append_right _ h
theorem lw_p0 : lw_okq (⟨"TypoSearch", "has", "(I)Z"⟩, 13) := ⟨⟨by decide +kernel, by decide +kernel⟩, lw_t1 (List.mem_of_getElem? (i := 4) rfl), lw_t1 (List.mem_of_getElem? (i := 60) rfl), lw_t1 (List.mem_of_getElem? (i := 61) rfl)⟩
theorem lw_p1 : lw_okq (⟨"TypoSearch", "foundCount", "()I"⟩, 13) := ⟨⟨by decide +kernel, by decide +kernel⟩, lw_t1 (List.mem_of_getElem? (i := 4) rfl), lw_t1 (List.mem_of_getElem? (i := 84) rfl), lw_t1 (List.mem_of_getElem? (i := 85) rfl)⟩
theorem lw_p2 : lw_okq (⟨"TypoSearch", "learn", "()V"⟩, 13) := ⟨⟨by decide +kernel, by decide +kernel⟩, lw_t1 (List.mem_of_getElem? (i := 4) rfl), lw_t1 (List.mem_of_getElem? (i := 88) rfl), lw_t1 (List.mem_of_getElem? (i := 89) rfl)⟩
theorem lw_p3 : lw_okq (⟨"TypoSearch", "typosOf", "(I)I"⟩, 13) := ⟨⟨by decide +kernel, by decide +kernel⟩, lw_t1 (List.mem_of_getElem? (i := 4) rfl), lw_t1 (List.mem_of_getElem? (i := 92) rfl), lw_t1 (List.mem_of_getElem? (i := 93) rfl)⟩
theorem lw_p4 : lw_okq (⟨"TypoSearch", "setOut", "()V"⟩, 13) := ⟨⟨by decide +kernel, by decide +kernel⟩, lw_t1 (List.mem_of_getElem? (i := 4) rfl), lw_t1 (List.mem_of_getElem? (i := 96) rfl), lw_t1 (List.mem_of_getElem? (i := 97) rfl)⟩
theorem lw_p5 : lw_okq (⟨"TypoSearch", "leaveOut", "()V"⟩, 13) := ⟨⟨by decide +kernel, by decide +kernel⟩, lw_t1 (List.mem_of_getElem? (i := 4) rfl), lw_t1 (List.mem_of_getElem? (i := 100) rfl), lw_t1 (List.mem_of_getElem? (i := 101) rfl)⟩
theorem lw_p6 : lw_okq (⟨"TypoSearch", "movable", "(IZ)I"⟩, 13) := ⟨⟨by decide +kernel, by decide +kernel⟩, lw_t1 (List.mem_of_getElem? (i := 4) rfl), lw_t1 (List.mem_of_getElem? (i := 104) rfl), lw_t1 (List.mem_of_getElem? (i := 105) rfl)⟩
theorem lw_p7 : lw_okq (⟨"TypoSearch", "reached", "()I"⟩, 13) := ⟨⟨by decide +kernel, by decide +kernel⟩, lw_t1 (List.mem_of_getElem? (i := 4) rfl), lw_t1 (List.mem_of_getElem? (i := 108) rfl), lw_t1 (List.mem_of_getElem? (i := 109) rfl)⟩
theorem lw_p8 : lw_okq (⟨"TypoSearch", "advance", "(I)V"⟩, 13) := ⟨⟨by decide +kernel, by decide +kernel⟩, lw_t1 (List.mem_of_getElem? (i := 4) rfl), lw_t1 (List.mem_of_getElem? (i := 112) rfl), lw_t1 (List.mem_of_getElem? (i := 113) rfl)⟩
theorem lw_p9 : lw_okq (⟨"TypoSearch", "forgiven", "()I"⟩, 13) := ⟨⟨by decide +kernel, by decide +kernel⟩, lw_t1 (List.mem_of_getElem? (i := 4) rfl), lw_t1 (List.mem_of_getElem? (i := 116) rfl), lw_t1 (List.mem_of_getElem? (i := 117) rfl)⟩
theorem lw_p10 : lw_okq (⟨"TypoSearch", "isFound", "(I)Z"⟩, 13) := ⟨⟨by decide +kernel, by decide +kernel⟩, lw_t1 (List.mem_of_getElem? (i := 4) rfl), lw_t1 (List.mem_of_getElem? (i := 120) rfl), lw_t1 (List.mem_of_getElem? (i := 121) rfl)⟩
theorem lw_p11 : lw_okq (⟨"TypoSearch", "goesBefore", "(II)Z"⟩, 13) := ⟨⟨by decide +kernel, by decide +kernel⟩, lw_t1 (List.mem_of_getElem? (i := 4) rfl), lw_t1 (List.mem_of_getElem? (i := 148) rfl), lw_t1 (List.mem_of_getElem? (i := 149) rfl)⟩
theorem lw_p12 : lw_okq (⟨"TypoSearch", "isQuery", "(I)Z"⟩, 13) := ⟨⟨by decide +kernel, by decide +kernel⟩, lw_t1 (List.mem_of_getElem? (i := 4) rfl), lw_t1 (List.mem_of_getElem? (i := 152) rfl), lw_t1 (List.mem_of_getElem? (i := 153) rfl)⟩
theorem lw_p13 : lw_okq (⟨"TypoSearch", "shared", "(III)I"⟩, 13) := ⟨⟨by decide +kernel, by decide +kernel⟩, lw_t1 (List.mem_of_getElem? (i := 4) rfl), lw_t1 (List.mem_of_getElem? (i := 167) rfl), lw_t1 (List.mem_of_getElem? (i := 168) rfl)⟩
theorem lw_p14 : lw_okq (⟨"TypoSearchModel", "is", "(I)Z"⟩, 6) := ⟨⟨by decide +kernel, by decide +kernel⟩, lw_t1 (List.mem_of_getElem? (i := 171) rfl), lw_t1 (List.mem_of_getElem? (i := 205) rfl), lw_t1 (List.mem_of_getElem? (i := 206) rfl)⟩
theorem lw_p15 : lw_okq (⟨"TypoSearchModel", "count", "()I"⟩, 6) := ⟨⟨by decide +kernel, by decide +kernel⟩, lw_t1 (List.mem_of_getElem? (i := 171) rfl), lw_t1 (List.mem_of_getElem? (i := 225) rfl), lw_t1 (List.mem_of_getElem? (i := 226) rfl)⟩
def lw_privs_1 : List (MethodName × Nat) := [(⟨"TypoSearch", "has", "(I)Z"⟩, 13), (⟨"TypoSearch", "foundCount", "()I"⟩, 13), (⟨"TypoSearch", "learn", "()V"⟩, 13), (⟨"TypoSearch", "typosOf", "(I)I"⟩, 13), (⟨"TypoSearch", "setOut", "()V"⟩, 13), (⟨"TypoSearch", "leaveOut", "()V"⟩, 13), (⟨"TypoSearch", "movable", "(IZ)I"⟩, 13), (⟨"TypoSearch", "reached", "()I"⟩, 13), (⟨"TypoSearch", "advance", "(I)V"⟩, 13), (⟨"TypoSearch", "forgiven", "()I"⟩, 13), (⟨"TypoSearch", "isFound", "(I)Z"⟩, 13), (⟨"TypoSearch", "goesBefore", "(II)Z"⟩, 13), (⟨"TypoSearch", "isQuery", "(I)Z"⟩, 13), (⟨"TypoSearch", "shared", "(III)I"⟩, 13), (⟨"TypoSearchModel", "is", "(I)Z"⟩, 6), (⟨"TypoSearchModel", "count", "()I"⟩, 6)]
theorem lw_r1 : ∀ q ∈ lw_privs_1, lw_okq q := List.forall_mem_cons.mpr ⟨lw_p0, List.forall_mem_cons.mpr ⟨lw_p1, List.forall_mem_cons.mpr ⟨lw_p2, List.forall_mem_cons.mpr ⟨lw_p3, List.forall_mem_cons.mpr ⟨lw_p4, List.forall_mem_cons.mpr ⟨lw_p5, List.forall_mem_cons.mpr ⟨lw_p6, List.forall_mem_cons.mpr ⟨lw_p7, List.forall_mem_cons.mpr ⟨lw_p8, List.forall_mem_cons.mpr ⟨lw_p9, List.forall_mem_cons.mpr ⟨lw_p10, List.forall_mem_cons.mpr ⟨lw_p11, List.forall_mem_cons.mpr ⟨lw_p12, List.forall_mem_cons.mpr ⟨lw_p13, List.forall_mem_cons.mpr ⟨lw_p14, List.forall_mem_cons.mpr ⟨lw_p15, fun _ h => absurd h List.not_mem_nil⟩⟩⟩⟩⟩⟩⟩⟩⟩⟩⟩⟩⟩⟩⟩⟩
theorem lw_p16 : lw_okq (⟨"TypoSearchModel", "isFound", "(I)Z"⟩, 6) := ⟨⟨by decide +kernel, by decide +kernel⟩, lw_t1 (List.mem_of_getElem? (i := 171) rfl), lw_t1 (List.mem_of_getElem? (i := 233) rfl), lw_t1 (List.mem_of_getElem? (i := 234) rfl)⟩
theorem lw_p17 : lw_okq (⟨"TypoSearchModel", "edits", "(I)I"⟩, 6) := ⟨⟨by decide +kernel, by decide +kernel⟩, lw_t1 (List.mem_of_getElem? (i := 171) rfl), lw_t1 (List.mem_of_getElem? (i := 237) rfl), lw_t1 (List.mem_of_getElem? (i := 238) rfl)⟩
theorem lw_p18 : lw_okq (⟨"TypoSearchModel", "step", "(III)I"⟩, 6) := ⟨⟨by decide +kernel, by decide +kernel⟩, lw_t1 (List.mem_of_getElem? (i := 171) rfl), lw_t2 (List.mem_of_getElem? (i := 1) rfl), lw_t2 (List.mem_of_getElem? (i := 2) rfl)⟩
theorem lw_p19 : lw_okq (⟨"TypoSearchModel", "min", "(II)I"⟩, 6) := ⟨⟨by decide +kernel, by decide +kernel⟩, lw_t1 (List.mem_of_getElem? (i := 171) rfl), lw_t2 (List.mem_of_getElem? (i := 5) rfl), lw_t2 (List.mem_of_getElem? (i := 6) rfl)⟩
theorem lw_p20 : lw_okq (⟨"TypoSearchModel", "before", "(II)Z"⟩, 6) := ⟨⟨by decide +kernel, by decide +kernel⟩, lw_t1 (List.mem_of_getElem? (i := 171) rfl), lw_t2 (List.mem_of_getElem? (i := 30) rfl), lw_t2 (List.mem_of_getElem? (i := 31) rfl)⟩
theorem lw_p21 : lw_okq (⟨"TypoSearchModel", "exact", "(I)Z"⟩, 6) := ⟨⟨by decide +kernel, by decide +kernel⟩, lw_t1 (List.mem_of_getElem? (i := 171) rfl), lw_t2 (List.mem_of_getElem? (i := 34) rfl), lw_t2 (List.mem_of_getElem? (i := 35) rfl)⟩
theorem lw_p22 : lw_okq (⟨"TypoSearchModel", "shared", "(II)I"⟩, 6) := ⟨⟨by decide +kernel, by decide +kernel⟩, lw_t1 (List.mem_of_getElem? (i := 171) rfl), lw_t2 (List.mem_of_getElem? (i := 49) rfl), lw_t2 (List.mem_of_getElem? (i := 50) rfl)⟩
def lw_privs_2 : List (MethodName × Nat) := [(⟨"TypoSearchModel", "isFound", "(I)Z"⟩, 6), (⟨"TypoSearchModel", "edits", "(I)I"⟩, 6), (⟨"TypoSearchModel", "step", "(III)I"⟩, 6), (⟨"TypoSearchModel", "min", "(II)I"⟩, 6), (⟨"TypoSearchModel", "before", "(II)Z"⟩, 6), (⟨"TypoSearchModel", "exact", "(I)Z"⟩, 6), (⟨"TypoSearchModel", "shared", "(II)I"⟩, 6)]
theorem lw_r2 : ∀ q ∈ lw_privs_2, lw_okq q := List.forall_mem_cons.mpr ⟨lw_p16, List.forall_mem_cons.mpr ⟨lw_p17, List.forall_mem_cons.mpr ⟨lw_p18, List.forall_mem_cons.mpr ⟨lw_p19, List.forall_mem_cons.mpr ⟨lw_p20, List.forall_mem_cons.mpr ⟨lw_p21, List.forall_mem_cons.mpr ⟨lw_p22, fun _ h => absurd h List.not_mem_nil⟩⟩⟩⟩⟩⟩⟩
def lw_privs : List (MethodName × Nat) := lw_privs_1 ++ (lw_privs_2)
def lw_tbl : List Cond := k2_sels lw_privs ++ tables_1
theorem lw_privs_ok : ∀ q ∈ lw_privs, lw_okq q := by
  show ∀ q ∈ lw_privs_1 ++ (lw_privs_2), lw_okq q
  exact List.forall_mem_append.mpr ⟨lw_r1, lw_r2⟩
-- ===== ONE list of words for every method: the tables' words that hold all through a run =====
def lw_all : List Cond := lw_tbl.filter goodWord
/-- a word of the tables by its place: claim/WORDS.tsv -/
theorem lw_w {w : Cond} (i : Nat) (h : lw_tbl[i]? = some w) (g : goodWord w = true) : w ∈ lw_all := List.mem_filter.mpr ⟨List.mem_of_getElem? h, g⟩
theorem lw_all_tbl {w : Cond} (h : w ∈ lw_all) : w ∈ lw_tbl := (List.mem_filter.mp h).1
theorem lw_self : GoodIn lw_all lw_all := fun w h => ⟨h, good_of_word (List.mem_filter.mp h).2⟩
/-- a class's field words, by their places -/
theorem lw_in (ws : List Cond) (ps : List Nat) (hp : ws = ps.filterMap (fun i => lw_tbl[i]?)) (hg : ws.all goodWord = true) : ∀ w ∈ ws, w ∈ lw_all := by
  intro w h
  have h1 := List.all_eq_true.mp hg w h
  rw [hp] at h
  obtain ⟨i, -, hi⟩ := List.mem_filterMap.mp h
  exact lw_w i hi h1
/-- the words of a contract for the method y with code b, L locals, answer r -/
abbrev ws_ (y : MethodName) (b : ByteArray) (L : Nat) (r : Option FieldType) : List Cond := Cond.code y b L r :: lw_all
theorem lw_meth {y : MethodName} {b : ByteArray} {L : Nat} {r : Option FieldType} (h : Cond.code y b L r ∈ lw_all) : GoodIn lw_all (ws_ y b L r) := by
  intro w hw
  rcases List.mem_cons.mp hw with e | e
  · rw [e]
    exact lw_self _ h
  · exact lw_self _ e
theorem lw_app {a c : List Cond} (ha : ∀ w ∈ a, w ∈ lw_all) (hc : GoodIn lw_all c) : GoodIn lw_all (a ++ c) := by
  intro w hw
  rcases List.mem_append.mp hw with e | e
  · exact lw_self w (ha w e)
  · exact hc w e
/-- what a call through an object asks: cwV n hts (lw_V ..) -/
theorem lw_V {own : String} {idx : Nat} {C : String} {y : MethodName} {b : ByteArray} {L : Nat} {r : Option FieldType} (h1 : Cond.methodLink own idx y ∈ lw_all) (h2 : Cond.instanceMethod y ∈ lw_all) (h3 : Cond.selects C y y ∈ lw_all) (h4 : Cond.initialized C ∈ lw_all) (h5 : Cond.code y b L r ∈ lw_all) : GoodIn lw_all (wsV own idx C y (ws_ y b L r)) := by
  refine lw_app ?_ (lw_meth h5)
  intro w hw
  simp only [List.mem_cons, List.not_mem_nil, or_false] at hw
  rcases hw with e | e | e | e
  · rw [e]; exact h1
  · rw [e]; exact h2
  · rw [e]; exact h3
  · rw [e]; exact h4
/-- what a static call asks: va_cwS n hts (lw_S ..) -/
theorem lw_S {own : String} {idx : Nat} {y : MethodName} {b : ByteArray} {L : Nat} {r : Option FieldType} (h1 : Cond.methodLink own idx y ∈ lw_all) (h2 : Cond.static y ∈ lw_all) (h3 : Cond.initialized y.cls ∈ lw_all) (h4 : Cond.code y b L r ∈ lw_all) : GoodIn lw_all (va_wsS own idx y (ws_ y b L r)) := by
  refine lw_app ?_ (lw_meth h4)
  intro w hw
  simp only [List.mem_cons, List.not_mem_nil, or_false] at hw
  rcases hw with e | e | e
  · rw [e]; exact h1
  · rw [e]; exact h2
  · rw [e]; exact h3
/-- the words of a contract for a method WITH HANDLERS (hh: its table) -/
abbrev wsW_ (y : MethodName) (b : ByteArray) (L : Nat) (r : Option FieldType) (hh : List (Nat × Nat × Nat × Nat)) : List Cond := Cond.codeWith y b L r hh :: lw_all
theorem lw_methW {y : MethodName} {b : ByteArray} {L : Nat} {r : Option FieldType} {hh : List (Nat × Nat × Nat × Nat)} (h : Cond.codeWith y b L r hh ∈ lw_all) : GoodIn lw_all (wsW_ y b L r hh) := by
  intro w hw
  rcases List.mem_cons.mp hw with e | e
  · rw [e]
    exact lw_self _ h
  · exact lw_self _ e
/-- any list of words by their places (lw_in), good -/
theorem lw_good {ws : List Cond} (h : ∀ w ∈ ws, w ∈ lw_all) : GoodIn lw_all ws := fun w hw => lw_self w (h w hw)
/-- what a call of a method with handlers asks: vx_cwVW n hts (lw_VW ..), vx_cwSW n hts (lw_SW ..) -/
theorem lw_VW {own : String} {idx : Nat} {C : String} {y : MethodName} {b : ByteArray} {L : Nat} {r : Option FieldType} {hh : List (Nat × Nat × Nat × Nat)} (h1 : Cond.methodLink own idx y ∈ lw_all) (h2 : Cond.instanceMethod y ∈ lw_all) (h3 : Cond.selects C y y ∈ lw_all) (h4 : Cond.initialized C ∈ lw_all) (h5 : Cond.codeWith y b L r hh ∈ lw_all) : GoodIn lw_all (wsV own idx C y (wsW_ y b L r hh)) := by
  refine lw_app ?_ (lw_methW h5)
  intro w hw
  simp only [List.mem_cons, List.not_mem_nil, or_false] at hw
  rcases hw with e | e | e | e
  · rw [e]; exact h1
  · rw [e]; exact h2
  · rw [e]; exact h3
  · rw [e]; exact h4
theorem lw_SW {own : String} {idx : Nat} {y : MethodName} {b : ByteArray} {L : Nat} {r : Option FieldType} {hh : List (Nat × Nat × Nat × Nat)} (h1 : Cond.methodLink own idx y ∈ lw_all) (h2 : Cond.static y ∈ lw_all) (h3 : Cond.initialized y.cls ∈ lw_all) (h4 : Cond.codeWith y b L r hh ∈ lw_all) : GoodIn lw_all (va_wsS own idx y (wsW_ y b L r hh)) := by
  refine lw_app ?_ (lw_methW h4)
  intro w hw
  simp only [List.mem_cons, List.not_mem_nil, or_false] at hw
  rcases hw with e | e | e
  · rw [e]; exact h1
  · rw [e]; exact h2
  · rw [e]; exact h3
/-- a word by its place in its run of the tables -/
theorem lw_at {r : List Cond} (hr : ∀ w ∈ r, w ∈ lw_tbl) {w : Cond} (i : Nat) (h : r[i]? = some w) : w ∈ lw_tbl := hr w (List.mem_of_getElem? h)
theorem lw_g {w : Cond} (h : w ∈ lw_tbl) (g : goodWord w = true) : w ∈ lw_all := List.mem_filter.mpr ⟨h, g⟩
theorem lw_ms : ∀ w ∈ k2_sels lw_privs, w ∈ lw_tbl := fun w h => show w ∈ k2_sels lw_privs ++ tables_1 from List.mem_append_left _ h
theorem lw_m1 : ∀ w ∈ tables_1_1, w ∈ lw_tbl := fun w h => show w ∈ k2_sels lw_privs ++ tables_1 from List.mem_append_right (k2_sels lw_privs) (show w ∈ tables_1 from List.mem_append_left _ h)
theorem lw_m2 : ∀ w ∈ tables_1_2, w ∈ lw_tbl := fun w h => show w ∈ k2_sels lw_privs ++ tables_1 from List.mem_append_right (k2_sels lw_privs) (show w ∈ tables_1 from List.mem_append_right _ h)
theorem qs0 : (Cond.selects "TypoSearch" ⟨"TypoSearch", "has", "(I)Z"⟩ ⟨"TypoSearch", "has", "(I)Z"⟩) ∈ lw_all := lw_g (lw_at lw_ms 0 rfl) rfl
theorem qs1 : (Cond.selects "TypoSearch" ⟨"TypoSearch", "foundCount", "()I"⟩ ⟨"TypoSearch", "foundCount", "()I"⟩) ∈ lw_all := lw_g (lw_at lw_ms 1 rfl) rfl
theorem qs2 : (Cond.selects "TypoSearch" ⟨"TypoSearch", "learn", "()V"⟩ ⟨"TypoSearch", "learn", "()V"⟩) ∈ lw_all := lw_g (lw_at lw_ms 2 rfl) rfl
theorem qs3 : (Cond.selects "TypoSearch" ⟨"TypoSearch", "typosOf", "(I)I"⟩ ⟨"TypoSearch", "typosOf", "(I)I"⟩) ∈ lw_all := lw_g (lw_at lw_ms 3 rfl) rfl
theorem qs4 : (Cond.selects "TypoSearch" ⟨"TypoSearch", "setOut", "()V"⟩ ⟨"TypoSearch", "setOut", "()V"⟩) ∈ lw_all := lw_g (lw_at lw_ms 4 rfl) rfl
theorem qs5 : (Cond.selects "TypoSearch" ⟨"TypoSearch", "leaveOut", "()V"⟩ ⟨"TypoSearch", "leaveOut", "()V"⟩) ∈ lw_all := lw_g (lw_at lw_ms 5 rfl) rfl
theorem qs6 : (Cond.selects "TypoSearch" ⟨"TypoSearch", "movable", "(IZ)I"⟩ ⟨"TypoSearch", "movable", "(IZ)I"⟩) ∈ lw_all := lw_g (lw_at lw_ms 6 rfl) rfl
theorem qs7 : (Cond.selects "TypoSearch" ⟨"TypoSearch", "reached", "()I"⟩ ⟨"TypoSearch", "reached", "()I"⟩) ∈ lw_all := lw_g (lw_at lw_ms 7 rfl) rfl
theorem qs8 : (Cond.selects "TypoSearch" ⟨"TypoSearch", "advance", "(I)V"⟩ ⟨"TypoSearch", "advance", "(I)V"⟩) ∈ lw_all := lw_g (lw_at lw_ms 8 rfl) rfl
theorem qs9 : (Cond.selects "TypoSearch" ⟨"TypoSearch", "forgiven", "()I"⟩ ⟨"TypoSearch", "forgiven", "()I"⟩) ∈ lw_all := lw_g (lw_at lw_ms 9 rfl) rfl
theorem qs10 : (Cond.selects "TypoSearch" ⟨"TypoSearch", "isFound", "(I)Z"⟩ ⟨"TypoSearch", "isFound", "(I)Z"⟩) ∈ lw_all := lw_g (lw_at lw_ms 10 rfl) rfl
theorem qs11 : (Cond.selects "TypoSearch" ⟨"TypoSearch", "goesBefore", "(II)Z"⟩ ⟨"TypoSearch", "goesBefore", "(II)Z"⟩) ∈ lw_all := lw_g (lw_at lw_ms 11 rfl) rfl
theorem qs12 : (Cond.selects "TypoSearch" ⟨"TypoSearch", "isQuery", "(I)Z"⟩ ⟨"TypoSearch", "isQuery", "(I)Z"⟩) ∈ lw_all := lw_g (lw_at lw_ms 12 rfl) rfl
theorem qs13 : (Cond.selects "TypoSearch" ⟨"TypoSearch", "shared", "(III)I"⟩ ⟨"TypoSearch", "shared", "(III)I"⟩) ∈ lw_all := lw_g (lw_at lw_ms 13 rfl) rfl
theorem qs14 : (Cond.selects "TypoSearchModel" ⟨"TypoSearchModel", "is", "(I)Z"⟩ ⟨"TypoSearchModel", "is", "(I)Z"⟩) ∈ lw_all := lw_g (lw_at lw_ms 14 rfl) rfl
theorem qs15 : (Cond.selects "TypoSearchModel" ⟨"TypoSearchModel", "count", "()I"⟩ ⟨"TypoSearchModel", "count", "()I"⟩) ∈ lw_all := lw_g (lw_at lw_ms 15 rfl) rfl
theorem qs16 : (Cond.selects "TypoSearchModel" ⟨"TypoSearchModel", "isFound", "(I)Z"⟩ ⟨"TypoSearchModel", "isFound", "(I)Z"⟩) ∈ lw_all := lw_g (lw_at lw_ms 16 rfl) rfl
theorem qs17 : (Cond.selects "TypoSearchModel" ⟨"TypoSearchModel", "edits", "(I)I"⟩ ⟨"TypoSearchModel", "edits", "(I)I"⟩) ∈ lw_all := lw_g (lw_at lw_ms 17 rfl) rfl
theorem qs18 : (Cond.selects "TypoSearchModel" ⟨"TypoSearchModel", "step", "(III)I"⟩ ⟨"TypoSearchModel", "step", "(III)I"⟩) ∈ lw_all := lw_g (lw_at lw_ms 18 rfl) rfl
theorem qs19 : (Cond.selects "TypoSearchModel" ⟨"TypoSearchModel", "min", "(II)I"⟩ ⟨"TypoSearchModel", "min", "(II)I"⟩) ∈ lw_all := lw_g (lw_at lw_ms 19 rfl) rfl
theorem qs20 : (Cond.selects "TypoSearchModel" ⟨"TypoSearchModel", "before", "(II)Z"⟩ ⟨"TypoSearchModel", "before", "(II)Z"⟩) ∈ lw_all := lw_g (lw_at lw_ms 20 rfl) rfl
theorem qs21 : (Cond.selects "TypoSearchModel" ⟨"TypoSearchModel", "exact", "(I)Z"⟩ ⟨"TypoSearchModel", "exact", "(I)Z"⟩) ∈ lw_all := lw_g (lw_at lw_ms 21 rfl) rfl
theorem qs22 : (Cond.selects "TypoSearchModel" ⟨"TypoSearchModel", "shared", "(II)I"⟩ ⟨"TypoSearchModel", "shared", "(II)I"⟩) ∈ lw_all := lw_g (lw_at lw_ms 22 rfl) rfl
end
section
/-! TypoSearch -/
set_option maxRecDepth 100000
def RX0 : String := "TypoSearch"
def TX0 : u_T := fun k => match k with
  | 0 => ("TypoSearch", "present", "I", false)
  | 1 => ("TypoSearch", "lengths", "[B", true)
  | 2 => ("TypoSearch", "weights", "[B", true)
  | 3 => ("TypoSearch", "symbols", "[B", true)
  | 4 => ("TypoSearch", "query", "[B", true)
  | 5 => ("TypoSearch", "size", "I", false)
  | 6 => ("TypoSearch", "having", "[B", true)
  | 7 => ("TypoSearch", "none", "I", false)
  | 8 => ("TypoSearch", "one", "I", false)
  | 9 => ("TypoSearch", "two", "I", false)
  | 10 => ("TypoSearch", "known", "Z", false)
  | 11 => ("TypoSearch", "typoCount", "[B", true)
  | _ => ("TypoSearch", "foundSet", "I", false)
def tyX0 : Nat → FieldType := fun k => match k with
  | 0 => .int
  | 1 => .array .byte
  | 2 => .array .byte
  | 3 => .array .byte
  | 4 => .array .byte
  | 5 => .int
  | 6 => .array .byte
  | 7 => .int
  | 8 => .int
  | 9 => .int
  | 10 => .boolean
  | 11 => .array .byte
  | _ => .int
abbrev wsX00 : List Cond := u_ws RX0 TX0 13
set_option maxRecDepth 100000 in
theorem nmX0 : ∀ a, a < 13 → ∀ b, b < 13 → a ≠ b → (TX0 a).2.1 ≠ (TX0 b).2.1 := by decide +kernel
set_option maxRecDepth 100000 in
theorem tyX0_ok : ∀ k, k < 13 → parseFieldDescriptor (TX0 k).2.2.1 = some (tyX0 k) := by decide +kernel
abbrev cX0_init : ByteArray := prog_1_method_1_code
def yX0_init : MethodName := ⟨RX0, "<init>", "()V"⟩
theorem dX0_init_0 : decode cX0_init 0 = .ok (.aload_n 0, 1) := by decide +kernel
theorem dX0_init_1 : decode cX0_init 1 = .ok (.invokespecial 1, 3) := by decide +kernel
theorem dX0_init_4 : decode cX0_init 4 = .ok (.aload_n 0, 1) := by decide +kernel
theorem dX0_init_5 : decode cX0_init 5 = .ok (.bipush 10, 2) := by decide +kernel
theorem dX0_init_7 : decode cX0_init 7 = .ok (.newarray .byte, 2) := by decide +kernel
theorem dX0_init_9 : decode cX0_init 9 = .ok (.putfield 7, 3) := by decide +kernel
theorem dX0_init_12 : decode cX0_init 12 = .ok (.aload_n 0, 1) := by decide +kernel
theorem dX0_init_13 : decode cX0_init 13 = .ok (.bipush 10, 2) := by decide +kernel
theorem dX0_init_15 : decode cX0_init 15 = .ok (.newarray .byte, 2) := by decide +kernel
theorem dX0_init_17 : decode cX0_init 17 = .ok (.putfield 13, 3) := by decide +kernel
theorem dX0_init_20 : decode cX0_init 20 = .ok (.aload_n 0, 1) := by decide +kernel
theorem dX0_init_21 : decode cX0_init 21 = .ok (.bipush 60, 2) := by decide +kernel
theorem dX0_init_23 : decode cX0_init 23 = .ok (.newarray .byte, 2) := by decide +kernel
theorem dX0_init_25 : decode cX0_init 25 = .ok (.putfield 16, 3) := by decide +kernel
theorem dX0_init_28 : decode cX0_init 28 = .ok (.aload_n 0, 1) := by decide +kernel
theorem dX0_init_29 : decode cX0_init 29 = .ok (.bipush 6, 2) := by decide +kernel
theorem dX0_init_31 : decode cX0_init 31 = .ok (.newarray .byte, 2) := by decide +kernel
theorem dX0_init_33 : decode cX0_init 33 = .ok (.putfield 19, 3) := by decide +kernel
theorem dX0_init_36 : decode cX0_init 36 = .ok (.aload_n 0, 1) := by decide +kernel
theorem dX0_init_37 : decode cX0_init 37 = .ok (.iconst 4, 1) := by decide +kernel
theorem dX0_init_38 : decode cX0_init 38 = .ok (.newarray .byte, 2) := by decide +kernel
theorem dX0_init_40 : decode cX0_init 40 = .ok (.putfield 22, 3) := by decide +kernel
theorem dX0_init_43 : decode cX0_init 43 = .ok (.aload_n 0, 1) := by decide +kernel
theorem dX0_init_44 : decode cX0_init 44 = .ok (.bipush 10, 2) := by decide +kernel
theorem dX0_init_46 : decode cX0_init 46 = .ok (.newarray .byte, 2) := by decide +kernel
theorem dX0_init_48 : decode cX0_init 48 = .ok (.putfield 25, 3) := by decide +kernel
theorem dX0_init_51 : decode cX0_init 51 = .ok (.return_, 1) := by decide +kernel
abbrev cX0_begin : ByteArray := prog_1_method_4_code
def yX0_begin : MethodName := ⟨RX0, "begin", "(II)I"⟩
theorem dX0_begin_0 : decode cX0_begin 0 = .ok (.iload_n 1, 1) := by decide +kernel
theorem dX0_begin_1 : decode cX0_begin 1 = .ok (.invokestatic 32, 3) := by decide +kernel
theorem dX0_begin_4 : decode cX0_begin 4 = .ok (.ifCond .eq 13, 3) := by decide +kernel
theorem dX0_begin_7 : decode cX0_begin 7 = .ok (.iload_n 2, 1) := by decide +kernel
theorem dX0_begin_8 : decode cX0_begin 8 = .ok (.ifCond .lt 9, 3) := by decide +kernel
theorem dX0_begin_11 : decode cX0_begin 11 = .ok (.iload_n 2, 1) := by decide +kernel
theorem dX0_begin_12 : decode cX0_begin 12 = .ok (.bipush 9, 2) := by decide +kernel
theorem dX0_begin_14 : decode cX0_begin 14 = .ok (.if_icmp .le 5, 3) := by decide +kernel
theorem dX0_begin_17 : decode cX0_begin 17 = .ok (.iconst (-1), 1) := by decide +kernel
theorem dX0_begin_18 : decode cX0_begin 18 = .ok (.ireturn, 1) := by decide +kernel
theorem dX0_begin_19 : decode cX0_begin 19 = .ok (.iconst 0, 1) := by decide +kernel
theorem dX0_begin_20 : decode cX0_begin 20 = .ok (.istore_n 3, 1) := by decide +kernel
theorem dX0_begin_21 : decode cX0_begin 21 = .ok (.iload_n 3, 1) := by decide +kernel
theorem dX0_begin_22 : decode cX0_begin 22 = .ok (.bipush 10, 2) := by decide +kernel
theorem dX0_begin_24 : decode cX0_begin 24 = .ok (.if_icmp .ge 62, 3) := by decide +kernel
theorem dX0_begin_27 : decode cX0_begin 27 = .ok (.aload_n 0, 1) := by decide +kernel
theorem dX0_begin_28 : decode cX0_begin 28 = .ok (.iload_n 3, 1) := by decide +kernel
theorem dX0_begin_29 : decode cX0_begin 29 = .ok (.invokevirtual 36, 3) := by decide +kernel
theorem dX0_begin_32 : decode cX0_begin 32 = .ok (.ifCond .ne 48, 3) := by decide +kernel
theorem dX0_begin_35 : decode cX0_begin 35 = .ok (.aload_n 0, 1) := by decide +kernel
theorem dX0_begin_36 : decode cX0_begin 36 = .ok (.dup, 1) := by decide +kernel
theorem dX0_begin_37 : decode cX0_begin 37 = .ok (.getfield 28, 3) := by decide +kernel
theorem dX0_begin_40 : decode cX0_begin 40 = .ok (.iconst 1, 1) := by decide +kernel
theorem dX0_begin_41 : decode cX0_begin 41 = .ok (.iload_n 3, 1) := by decide +kernel
theorem dX0_begin_42 : decode cX0_begin 42 = .ok (.ishl, 1) := by decide +kernel
theorem dX0_begin_43 : decode cX0_begin 43 = .ok (.ior, 1) := by decide +kernel
theorem dX0_begin_44 : decode cX0_begin 44 = .ok (.putfield 28, 3) := by decide +kernel
theorem dX0_begin_47 : decode cX0_begin 47 = .ok (.aload_n 0, 1) := by decide +kernel
theorem dX0_begin_48 : decode cX0_begin 48 = .ok (.getfield 16, 3) := by decide +kernel
theorem dX0_begin_51 : decode cX0_begin 51 = .ok (.iload_n 3, 1) := by decide +kernel
theorem dX0_begin_52 : decode cX0_begin 52 = .ok (.bipush 6, 2) := by decide +kernel
theorem dX0_begin_54 : decode cX0_begin 54 = .ok (.imul, 1) := by decide +kernel
theorem dX0_begin_55 : decode cX0_begin 55 = .ok (.iload_n 1, 1) := by decide +kernel
theorem dX0_begin_56 : decode cX0_begin 56 = .ok (.i2b, 1) := by decide +kernel
theorem dX0_begin_57 : decode cX0_begin 57 = .ok (.bastore, 1) := by decide +kernel
theorem dX0_begin_58 : decode cX0_begin 58 = .ok (.aload_n 0, 1) := by decide +kernel
theorem dX0_begin_59 : decode cX0_begin 59 = .ok (.getfield 7, 3) := by decide +kernel
theorem dX0_begin_62 : decode cX0_begin 62 = .ok (.iload_n 3, 1) := by decide +kernel
theorem dX0_begin_63 : decode cX0_begin 63 = .ok (.iconst 1, 1) := by decide +kernel
theorem dX0_begin_64 : decode cX0_begin 64 = .ok (.bastore, 1) := by decide +kernel
theorem dX0_begin_65 : decode cX0_begin 65 = .ok (.aload_n 0, 1) := by decide +kernel
theorem dX0_begin_66 : decode cX0_begin 66 = .ok (.getfield 13, 3) := by decide +kernel
theorem dX0_begin_69 : decode cX0_begin 69 = .ok (.iload_n 3, 1) := by decide +kernel
theorem dX0_begin_70 : decode cX0_begin 70 = .ok (.iload_n 2, 1) := by decide +kernel
theorem dX0_begin_71 : decode cX0_begin 71 = .ok (.i2b, 1) := by decide +kernel
theorem dX0_begin_72 : decode cX0_begin 72 = .ok (.bastore, 1) := by decide +kernel
theorem dX0_begin_73 : decode cX0_begin 73 = .ok (.aload_n 0, 1) := by decide +kernel
theorem dX0_begin_74 : decode cX0_begin 74 = .ok (.iconst 0, 1) := by decide +kernel
theorem dX0_begin_75 : decode cX0_begin 75 = .ok (.putfield 39, 3) := by decide +kernel
theorem dX0_begin_78 : decode cX0_begin 78 = .ok (.iload_n 3, 1) := by decide +kernel
theorem dX0_begin_79 : decode cX0_begin 79 = .ok (.ireturn, 1) := by decide +kernel
theorem dX0_begin_80 : decode cX0_begin 80 = .ok (.iinc 3 1, 3) := by decide +kernel
theorem dX0_begin_83 : decode cX0_begin 83 = .ok (.goto (-62), 3) := by decide +kernel
theorem dX0_begin_86 : decode cX0_begin 86 = .ok (.bipush (-2), 2) := by decide +kernel
theorem dX0_begin_88 : decode cX0_begin 88 = .ok (.ireturn, 1) := by decide +kernel
abbrev cX0_isSymbol : ByteArray := prog_1_method_3_code
def yX0_isSymbol : MethodName := ⟨RX0, "isSymbol", "(I)Z"⟩
theorem dX0_isSymbol_0 : decode cX0_isSymbol 0 = .ok (.iload_n 0, 1) := by decide +kernel
theorem dX0_isSymbol_1 : decode cX0_isSymbol 1 = .ok (.ifCond .lt 12, 3) := by decide +kernel
theorem dX0_isSymbol_4 : decode cX0_isSymbol 4 = .ok (.iload_n 0, 1) := by decide +kernel
theorem dX0_isSymbol_5 : decode cX0_isSymbol 5 = .ok (.iconst 4, 1) := by decide +kernel
theorem dX0_isSymbol_6 : decode cX0_isSymbol 6 = .ok (.if_icmp .ge 7, 3) := by decide +kernel
theorem dX0_isSymbol_9 : decode cX0_isSymbol 9 = .ok (.iconst 1, 1) := by decide +kernel
theorem dX0_isSymbol_10 : decode cX0_isSymbol 10 = .ok (.goto 4, 3) := by decide +kernel
theorem dX0_isSymbol_13 : decode cX0_isSymbol 13 = .ok (.iconst 0, 1) := by decide +kernel
theorem dX0_isSymbol_14 : decode cX0_isSymbol 14 = .ok (.ireturn, 1) := by decide +kernel
abbrev cX0_has : ByteArray := prog_1_method_2_code
def yX0_has : MethodName := ⟨RX0, "has", "(I)Z"⟩
theorem dX0_has_0 : decode cX0_has 0 = .ok (.iload_n 1, 1) := by decide +kernel
theorem dX0_has_1 : decode cX0_has 1 = .ok (.ifCond .lt 24, 3) := by decide +kernel
theorem dX0_has_4 : decode cX0_has 4 = .ok (.iload_n 1, 1) := by decide +kernel
theorem dX0_has_5 : decode cX0_has 5 = .ok (.bipush 10, 2) := by decide +kernel
theorem dX0_has_7 : decode cX0_has 7 = .ok (.if_icmp .ge 18, 3) := by decide +kernel
theorem dX0_has_10 : decode cX0_has 10 = .ok (.aload_n 0, 1) := by decide +kernel
theorem dX0_has_11 : decode cX0_has 11 = .ok (.getfield 28, 3) := by decide +kernel
theorem dX0_has_14 : decode cX0_has 14 = .ok (.iload_n 1, 1) := by decide +kernel
theorem dX0_has_15 : decode cX0_has 15 = .ok (.ishr, 1) := by decide +kernel
theorem dX0_has_16 : decode cX0_has 16 = .ok (.iconst 1, 1) := by decide +kernel
theorem dX0_has_17 : decode cX0_has 17 = .ok (.iand, 1) := by decide +kernel
theorem dX0_has_18 : decode cX0_has 18 = .ok (.ifCond .eq 7, 3) := by decide +kernel
theorem dX0_has_21 : decode cX0_has 21 = .ok (.iconst 1, 1) := by decide +kernel
theorem dX0_has_22 : decode cX0_has 22 = .ok (.goto 4, 3) := by decide +kernel
theorem dX0_has_25 : decode cX0_has 25 = .ok (.iconst 0, 1) := by decide +kernel
theorem dX0_has_26 : decode cX0_has 26 = .ok (.ireturn, 1) := by decide +kernel
abbrev cX0_extend : ByteArray := prog_1_method_5_code
def yX0_extend : MethodName := ⟨RX0, "extend", "(II)Z"⟩
theorem dX0_extend_0 : decode cX0_extend 0 = .ok (.aload_n 0, 1) := by decide +kernel
theorem dX0_extend_1 : decode cX0_extend 1 = .ok (.iload_n 1, 1) := by decide +kernel
theorem dX0_extend_2 : decode cX0_extend 2 = .ok (.invokevirtual 36, 3) := by decide +kernel
theorem dX0_extend_5 : decode cX0_extend 5 = .ok (.ifCond .eq 21, 3) := by decide +kernel
theorem dX0_extend_8 : decode cX0_extend 8 = .ok (.iload_n 2, 1) := by decide +kernel
theorem dX0_extend_9 : decode cX0_extend 9 = .ok (.invokestatic 32, 3) := by decide +kernel
theorem dX0_extend_12 : decode cX0_extend 12 = .ok (.ifCond .eq 14, 3) := by decide +kernel
theorem dX0_extend_15 : decode cX0_extend 15 = .ok (.aload_n 0, 1) := by decide +kernel
theorem dX0_extend_16 : decode cX0_extend 16 = .ok (.getfield 7, 3) := by decide +kernel
theorem dX0_extend_19 : decode cX0_extend 19 = .ok (.iload_n 1, 1) := by decide +kernel
theorem dX0_extend_20 : decode cX0_extend 20 = .ok (.baload, 1) := by decide +kernel
theorem dX0_extend_21 : decode cX0_extend 21 = .ok (.bipush 6, 2) := by decide +kernel
theorem dX0_extend_23 : decode cX0_extend 23 = .ok (.if_icmp .lt 5, 3) := by decide +kernel
theorem dX0_extend_26 : decode cX0_extend 26 = .ok (.iconst 0, 1) := by decide +kernel
theorem dX0_extend_27 : decode cX0_extend 27 = .ok (.ireturn, 1) := by decide +kernel
theorem dX0_extend_28 : decode cX0_extend 28 = .ok (.aload_n 0, 1) := by decide +kernel
theorem dX0_extend_29 : decode cX0_extend 29 = .ok (.getfield 16, 3) := by decide +kernel
theorem dX0_extend_32 : decode cX0_extend 32 = .ok (.iload_n 1, 1) := by decide +kernel
theorem dX0_extend_33 : decode cX0_extend 33 = .ok (.bipush 6, 2) := by decide +kernel
theorem dX0_extend_35 : decode cX0_extend 35 = .ok (.imul, 1) := by decide +kernel
theorem dX0_extend_36 : decode cX0_extend 36 = .ok (.aload_n 0, 1) := by decide +kernel
theorem dX0_extend_37 : decode cX0_extend 37 = .ok (.getfield 7, 3) := by decide +kernel
theorem dX0_extend_40 : decode cX0_extend 40 = .ok (.iload_n 1, 1) := by decide +kernel
theorem dX0_extend_41 : decode cX0_extend 41 = .ok (.baload, 1) := by decide +kernel
theorem dX0_extend_42 : decode cX0_extend 42 = .ok (.iadd, 1) := by decide +kernel
theorem dX0_extend_43 : decode cX0_extend 43 = .ok (.iload_n 2, 1) := by decide +kernel
theorem dX0_extend_44 : decode cX0_extend 44 = .ok (.i2b, 1) := by decide +kernel
theorem dX0_extend_45 : decode cX0_extend 45 = .ok (.bastore, 1) := by decide +kernel
theorem dX0_extend_46 : decode cX0_extend 46 = .ok (.aload_n 0, 1) := by decide +kernel
theorem dX0_extend_47 : decode cX0_extend 47 = .ok (.getfield 7, 3) := by decide +kernel
theorem dX0_extend_50 : decode cX0_extend 50 = .ok (.iload_n 1, 1) := by decide +kernel
theorem dX0_extend_51 : decode cX0_extend 51 = .ok (.dup2, 1) := by decide +kernel
theorem dX0_extend_52 : decode cX0_extend 52 = .ok (.baload, 1) := by decide +kernel
theorem dX0_extend_53 : decode cX0_extend 53 = .ok (.iconst 1, 1) := by decide +kernel
theorem dX0_extend_54 : decode cX0_extend 54 = .ok (.iadd, 1) := by decide +kernel
theorem dX0_extend_55 : decode cX0_extend 55 = .ok (.i2b, 1) := by decide +kernel
theorem dX0_extend_56 : decode cX0_extend 56 = .ok (.bastore, 1) := by decide +kernel
theorem dX0_extend_57 : decode cX0_extend 57 = .ok (.aload_n 0, 1) := by decide +kernel
theorem dX0_extend_58 : decode cX0_extend 58 = .ok (.iconst 0, 1) := by decide +kernel
theorem dX0_extend_59 : decode cX0_extend 59 = .ok (.putfield 39, 3) := by decide +kernel
theorem dX0_extend_62 : decode cX0_extend 62 = .ok (.iconst 1, 1) := by decide +kernel
theorem dX0_extend_63 : decode cX0_extend 63 = .ok (.ireturn, 1) := by decide +kernel
abbrev cX0_remove : ByteArray := prog_1_method_6_code
def yX0_remove : MethodName := ⟨RX0, "remove", "(I)Z"⟩
theorem dX0_remove_0 : decode cX0_remove 0 = .ok (.aload_n 0, 1) := by decide +kernel
theorem dX0_remove_1 : decode cX0_remove 1 = .ok (.iload_n 1, 1) := by decide +kernel
theorem dX0_remove_2 : decode cX0_remove 2 = .ok (.invokevirtual 36, 3) := by decide +kernel
theorem dX0_remove_5 : decode cX0_remove 5 = .ok (.ifCond .ne 5, 3) := by decide +kernel
theorem dX0_remove_8 : decode cX0_remove 8 = .ok (.iconst 0, 1) := by decide +kernel
theorem dX0_remove_9 : decode cX0_remove 9 = .ok (.ireturn, 1) := by decide +kernel
theorem dX0_remove_10 : decode cX0_remove 10 = .ok (.aload_n 0, 1) := by decide +kernel
theorem dX0_remove_11 : decode cX0_remove 11 = .ok (.dup, 1) := by decide +kernel
theorem dX0_remove_12 : decode cX0_remove 12 = .ok (.getfield 28, 3) := by decide +kernel
theorem dX0_remove_15 : decode cX0_remove 15 = .ok (.iconst 1, 1) := by decide +kernel
theorem dX0_remove_16 : decode cX0_remove 16 = .ok (.iload_n 1, 1) := by decide +kernel
theorem dX0_remove_17 : decode cX0_remove 17 = .ok (.ishl, 1) := by decide +kernel
theorem dX0_remove_18 : decode cX0_remove 18 = .ok (.iconst (-1), 1) := by decide +kernel
theorem dX0_remove_19 : decode cX0_remove 19 = .ok (.ixor, 1) := by decide +kernel
theorem dX0_remove_20 : decode cX0_remove 20 = .ok (.iand, 1) := by decide +kernel
theorem dX0_remove_21 : decode cX0_remove 21 = .ok (.putfield 28, 3) := by decide +kernel
theorem dX0_remove_24 : decode cX0_remove 24 = .ok (.aload_n 0, 1) := by decide +kernel
theorem dX0_remove_25 : decode cX0_remove 25 = .ok (.iconst 0, 1) := by decide +kernel
theorem dX0_remove_26 : decode cX0_remove 26 = .ok (.putfield 39, 3) := by decide +kernel
theorem dX0_remove_29 : decode cX0_remove 29 = .ok (.iconst 1, 1) := by decide +kernel
theorem dX0_remove_30 : decode cX0_remove 30 = .ok (.ireturn, 1) := by decide +kernel
abbrev cX0_weigh : ByteArray := prog_1_method_7_code
def yX0_weigh : MethodName := ⟨RX0, "weigh", "(II)Z"⟩
theorem dX0_weigh_0 : decode cX0_weigh 0 = .ok (.aload_n 0, 1) := by decide +kernel
theorem dX0_weigh_1 : decode cX0_weigh 1 = .ok (.iload_n 1, 1) := by decide +kernel
theorem dX0_weigh_2 : decode cX0_weigh 2 = .ok (.invokevirtual 36, 3) := by decide +kernel
theorem dX0_weigh_5 : decode cX0_weigh 5 = .ok (.ifCond .eq 13, 3) := by decide +kernel
theorem dX0_weigh_8 : decode cX0_weigh 8 = .ok (.iload_n 2, 1) := by decide +kernel
theorem dX0_weigh_9 : decode cX0_weigh 9 = .ok (.ifCond .lt 9, 3) := by decide +kernel
theorem dX0_weigh_12 : decode cX0_weigh 12 = .ok (.iload_n 2, 1) := by decide +kernel
theorem dX0_weigh_13 : decode cX0_weigh 13 = .ok (.bipush 9, 2) := by decide +kernel
theorem dX0_weigh_15 : decode cX0_weigh 15 = .ok (.if_icmp .le 5, 3) := by decide +kernel
theorem dX0_weigh_18 : decode cX0_weigh 18 = .ok (.iconst 0, 1) := by decide +kernel
theorem dX0_weigh_19 : decode cX0_weigh 19 = .ok (.ireturn, 1) := by decide +kernel
theorem dX0_weigh_20 : decode cX0_weigh 20 = .ok (.aload_n 0, 1) := by decide +kernel
theorem dX0_weigh_21 : decode cX0_weigh 21 = .ok (.getfield 13, 3) := by decide +kernel
theorem dX0_weigh_24 : decode cX0_weigh 24 = .ok (.iload_n 1, 1) := by decide +kernel
theorem dX0_weigh_25 : decode cX0_weigh 25 = .ok (.iload_n 2, 1) := by decide +kernel
theorem dX0_weigh_26 : decode cX0_weigh 26 = .ok (.i2b, 1) := by decide +kernel
theorem dX0_weigh_27 : decode cX0_weigh 27 = .ok (.bastore, 1) := by decide +kernel
theorem dX0_weigh_28 : decode cX0_weigh 28 = .ok (.iconst 1, 1) := by decide +kernel
theorem dX0_weigh_29 : decode cX0_weigh 29 = .ok (.ireturn, 1) := by decide +kernel
abbrev cX0_words : ByteArray := prog_1_method_8_code
def yX0_words : MethodName := ⟨RX0, "words", "()I"⟩
theorem dX0_words_0 : decode cX0_words 0 = .ok (.aload_n 0, 1) := by decide +kernel
theorem dX0_words_1 : decode cX0_words 1 = .ok (.getfield 28, 3) := by decide +kernel
theorem dX0_words_4 : decode cX0_words 4 = .ok (.ireturn, 1) := by decide +kernel
abbrev cX0_type : ByteArray := prog_1_method_9_code
def yX0_type : MethodName := ⟨RX0, "type", "(I)I"⟩
theorem dX0_type_0 : decode cX0_type 0 = .ok (.iload_n 1, 1) := by decide +kernel
theorem dX0_type_1 : decode cX0_type 1 = .ok (.invokestatic 32, 3) := by decide +kernel
theorem dX0_type_4 : decode cX0_type 4 = .ok (.ifCond .ne 5, 3) := by decide +kernel
theorem dX0_type_7 : decode cX0_type 7 = .ok (.iconst (-1), 1) := by decide +kernel
theorem dX0_type_8 : decode cX0_type 8 = .ok (.ireturn, 1) := by decide +kernel
theorem dX0_type_9 : decode cX0_type 9 = .ok (.aload_n 0, 1) := by decide +kernel
theorem dX0_type_10 : decode cX0_type 10 = .ok (.getfield 43, 3) := by decide +kernel
theorem dX0_type_13 : decode cX0_type 13 = .ok (.bipush 6, 2) := by decide +kernel
theorem dX0_type_15 : decode cX0_type 15 = .ok (.if_icmp .lt 6, 3) := by decide +kernel
theorem dX0_type_18 : decode cX0_type 18 = .ok (.bipush (-2), 2) := by decide +kernel
theorem dX0_type_20 : decode cX0_type 20 = .ok (.ireturn, 1) := by decide +kernel
theorem dX0_type_21 : decode cX0_type 21 = .ok (.aload_n 0, 1) := by decide +kernel
theorem dX0_type_22 : decode cX0_type 22 = .ok (.getfield 19, 3) := by decide +kernel
theorem dX0_type_25 : decode cX0_type 25 = .ok (.aload_n 0, 1) := by decide +kernel
theorem dX0_type_26 : decode cX0_type 26 = .ok (.getfield 43, 3) := by decide +kernel
theorem dX0_type_29 : decode cX0_type 29 = .ok (.iload_n 1, 1) := by decide +kernel
theorem dX0_type_30 : decode cX0_type 30 = .ok (.i2b, 1) := by decide +kernel
theorem dX0_type_31 : decode cX0_type 31 = .ok (.bastore, 1) := by decide +kernel
theorem dX0_type_32 : decode cX0_type 32 = .ok (.aload_n 0, 1) := by decide +kernel
theorem dX0_type_33 : decode cX0_type 33 = .ok (.dup, 1) := by decide +kernel
theorem dX0_type_34 : decode cX0_type 34 = .ok (.getfield 43, 3) := by decide +kernel
theorem dX0_type_37 : decode cX0_type 37 = .ok (.iconst 1, 1) := by decide +kernel
theorem dX0_type_38 : decode cX0_type 38 = .ok (.iadd, 1) := by decide +kernel
theorem dX0_type_39 : decode cX0_type 39 = .ok (.putfield 43, 3) := by decide +kernel
theorem dX0_type_42 : decode cX0_type 42 = .ok (.aload_n 0, 1) := by decide +kernel
theorem dX0_type_43 : decode cX0_type 43 = .ok (.iconst 0, 1) := by decide +kernel
theorem dX0_type_44 : decode cX0_type 44 = .ok (.putfield 39, 3) := by decide +kernel
theorem dX0_type_47 : decode cX0_type 47 = .ok (.aload_n 0, 1) := by decide +kernel
theorem dX0_type_48 : decode cX0_type 48 = .ok (.invokevirtual 46, 3) := by decide +kernel
theorem dX0_type_51 : decode cX0_type 51 = .ok (.ireturn, 1) := by decide +kernel
abbrev cX0_foundCount : ByteArray := prog_1_method_23_code
def yX0_foundCount : MethodName := ⟨RX0, "foundCount", "()I"⟩
theorem dX0_foundCount_0 : decode cX0_foundCount 0 = .ok (.aload_n 0, 1) := by decide +kernel
theorem dX0_foundCount_1 : decode cX0_foundCount 1 = .ok (.invokevirtual 89, 3) := by decide +kernel
theorem dX0_foundCount_4 : decode cX0_foundCount 4 = .ok (.iconst 0, 1) := by decide +kernel
theorem dX0_foundCount_5 : decode cX0_foundCount 5 = .ok (.istore_n 1, 1) := by decide +kernel
theorem dX0_foundCount_6 : decode cX0_foundCount 6 = .ok (.iconst 0, 1) := by decide +kernel
theorem dX0_foundCount_7 : decode cX0_foundCount 7 = .ok (.istore_n 2, 1) := by decide +kernel
theorem dX0_foundCount_8 : decode cX0_foundCount 8 = .ok (.iload_n 2, 1) := by decide +kernel
theorem dX0_foundCount_9 : decode cX0_foundCount 9 = .ok (.bipush 10, 2) := by decide +kernel
theorem dX0_foundCount_11 : decode cX0_foundCount 11 = .ok (.if_icmp .ge 25, 3) := by decide +kernel
theorem dX0_foundCount_14 : decode cX0_foundCount 14 = .ok (.iload_n 1, 1) := by decide +kernel
theorem dX0_foundCount_15 : decode cX0_foundCount 15 = .ok (.aload_n 0, 1) := by decide +kernel
theorem dX0_foundCount_16 : decode cX0_foundCount 16 = .ok (.iload_n 2, 1) := by decide +kernel
theorem dX0_foundCount_17 : decode cX0_foundCount 17 = .ok (.invokevirtual 92, 3) := by decide +kernel
theorem dX0_foundCount_20 : decode cX0_foundCount 20 = .ok (.ifCond .eq 7, 3) := by decide +kernel
theorem dX0_foundCount_23 : decode cX0_foundCount 23 = .ok (.iconst 1, 1) := by decide +kernel
theorem dX0_foundCount_24 : decode cX0_foundCount 24 = .ok (.goto 4, 3) := by decide +kernel
theorem dX0_foundCount_27 : decode cX0_foundCount 27 = .ok (.iconst 0, 1) := by decide +kernel
theorem dX0_foundCount_28 : decode cX0_foundCount 28 = .ok (.iadd, 1) := by decide +kernel
theorem dX0_foundCount_29 : decode cX0_foundCount 29 = .ok (.istore_n 1, 1) := by decide +kernel
theorem dX0_foundCount_30 : decode cX0_foundCount 30 = .ok (.iinc 2 1, 3) := by decide +kernel
theorem dX0_foundCount_33 : decode cX0_foundCount 33 = .ok (.goto (-25), 3) := by decide +kernel
theorem dX0_foundCount_36 : decode cX0_foundCount 36 = .ok (.iload_n 1, 1) := by decide +kernel
theorem dX0_foundCount_37 : decode cX0_foundCount 37 = .ok (.ireturn, 1) := by decide +kernel
abbrev cX0_learn : ByteArray := prog_1_method_19_code
def yX0_learn : MethodName := ⟨RX0, "learn", "()V"⟩
theorem dX0_learn_0 : decode cX0_learn 0 = .ok (.aload_n 0, 1) := by decide +kernel
theorem dX0_learn_1 : decode cX0_learn 1 = .ok (.getfield 39, 3) := by decide +kernel
theorem dX0_learn_4 : decode cX0_learn 4 = .ok (.ifCond .eq 4, 3) := by decide +kernel
theorem dX0_learn_7 : decode cX0_learn 7 = .ok (.return_, 1) := by decide +kernel
theorem dX0_learn_8 : decode cX0_learn 8 = .ok (.aload_n 0, 1) := by decide +kernel
theorem dX0_learn_9 : decode cX0_learn 9 = .ok (.iconst 1, 1) := by decide +kernel
theorem dX0_learn_10 : decode cX0_learn 10 = .ok (.putfield 39, 3) := by decide +kernel
theorem dX0_learn_13 : decode cX0_learn 13 = .ok (.aload_n 0, 1) := by decide +kernel
theorem dX0_learn_14 : decode cX0_learn 14 = .ok (.iconst 0, 1) := by decide +kernel
theorem dX0_learn_15 : decode cX0_learn 15 = .ok (.putfield 76, 3) := by decide +kernel
theorem dX0_learn_18 : decode cX0_learn 18 = .ok (.iconst 0, 1) := by decide +kernel
theorem dX0_learn_19 : decode cX0_learn 19 = .ok (.istore_n 1, 1) := by decide +kernel
theorem dX0_learn_20 : decode cX0_learn 20 = .ok (.iload_n 1, 1) := by decide +kernel
theorem dX0_learn_21 : decode cX0_learn 21 = .ok (.bipush 10, 2) := by decide +kernel
theorem dX0_learn_23 : decode cX0_learn 23 = .ok (.if_icmp .ge 58, 3) := by decide +kernel
theorem dX0_learn_26 : decode cX0_learn 26 = .ok (.aload_n 0, 1) := by decide +kernel
theorem dX0_learn_27 : decode cX0_learn 27 = .ok (.iload_n 1, 1) := by decide +kernel
theorem dX0_learn_28 : decode cX0_learn 28 = .ok (.invokevirtual 36, 3) := by decide +kernel
theorem dX0_learn_31 : decode cX0_learn 31 = .ok (.ifCond .eq 44, 3) := by decide +kernel
theorem dX0_learn_34 : decode cX0_learn 34 = .ok (.aload_n 0, 1) := by decide +kernel
theorem dX0_learn_35 : decode cX0_learn 35 = .ok (.getfield 25, 3) := by decide +kernel
theorem dX0_learn_38 : decode cX0_learn 38 = .ok (.iload_n 1, 1) := by decide +kernel
theorem dX0_learn_39 : decode cX0_learn 39 = .ok (.aload_n 0, 1) := by decide +kernel
theorem dX0_learn_40 : decode cX0_learn 40 = .ok (.iload_n 1, 1) := by decide +kernel
theorem dX0_learn_41 : decode cX0_learn 41 = .ok (.invokevirtual 79, 3) := by decide +kernel
theorem dX0_learn_44 : decode cX0_learn 44 = .ok (.i2b, 1) := by decide +kernel
theorem dX0_learn_45 : decode cX0_learn 45 = .ok (.bastore, 1) := by decide +kernel
theorem dX0_learn_46 : decode cX0_learn 46 = .ok (.aload_n 0, 1) := by decide +kernel
theorem dX0_learn_47 : decode cX0_learn 47 = .ok (.dup, 1) := by decide +kernel
theorem dX0_learn_48 : decode cX0_learn 48 = .ok (.getfield 76, 3) := by decide +kernel
theorem dX0_learn_51 : decode cX0_learn 51 = .ok (.aload_n 0, 1) := by decide +kernel
theorem dX0_learn_52 : decode cX0_learn 52 = .ok (.getfield 25, 3) := by decide +kernel
theorem dX0_learn_55 : decode cX0_learn 55 = .ok (.iload_n 1, 1) := by decide +kernel
theorem dX0_learn_56 : decode cX0_learn 56 = .ok (.baload, 1) := by decide +kernel
theorem dX0_learn_57 : decode cX0_learn 57 = .ok (.aload_n 0, 1) := by decide +kernel
theorem dX0_learn_58 : decode cX0_learn 58 = .ok (.invokevirtual 83, 3) := by decide +kernel
theorem dX0_learn_61 : decode cX0_learn 61 = .ok (.if_icmp .gt 9, 3) := by decide +kernel
theorem dX0_learn_64 : decode cX0_learn 64 = .ok (.iconst 1, 1) := by decide +kernel
theorem dX0_learn_65 : decode cX0_learn 65 = .ok (.iload_n 1, 1) := by decide +kernel
theorem dX0_learn_66 : decode cX0_learn 66 = .ok (.ishl, 1) := by decide +kernel
theorem dX0_learn_67 : decode cX0_learn 67 = .ok (.goto 4, 3) := by decide +kernel
theorem dX0_learn_70 : decode cX0_learn 70 = .ok (.iconst 0, 1) := by decide +kernel
theorem dX0_learn_71 : decode cX0_learn 71 = .ok (.ior, 1) := by decide +kernel
theorem dX0_learn_72 : decode cX0_learn 72 = .ok (.putfield 76, 3) := by decide +kernel
theorem dX0_learn_75 : decode cX0_learn 75 = .ok (.iinc 1 1, 3) := by decide +kernel
theorem dX0_learn_78 : decode cX0_learn 78 = .ok (.goto (-58), 3) := by decide +kernel
theorem dX0_learn_81 : decode cX0_learn 81 = .ok (.return_, 1) := by decide +kernel
abbrev cX0_typosOf : ByteArray := prog_1_method_18_code
def yX0_typosOf : MethodName := ⟨RX0, "typosOf", "(I)I"⟩
theorem dX0_typosOf_0 : decode cX0_typosOf 0 = .ok (.aload_n 0, 1) := by decide +kernel
theorem dX0_typosOf_1 : decode cX0_typosOf 1 = .ok (.invokevirtual 66, 3) := by decide +kernel
theorem dX0_typosOf_4 : decode cX0_typosOf 4 = .ok (.aload_n 0, 1) := by decide +kernel
theorem dX0_typosOf_5 : decode cX0_typosOf 5 = .ok (.invokevirtual 69, 3) := by decide +kernel
theorem dX0_typosOf_8 : decode cX0_typosOf 8 = .ok (.istore_n 2, 1) := by decide +kernel
theorem dX0_typosOf_9 : decode cX0_typosOf 9 = .ok (.iconst 0, 1) := by decide +kernel
theorem dX0_typosOf_10 : decode cX0_typosOf 10 = .ok (.istore_n 3, 1) := by decide +kernel
theorem dX0_typosOf_11 : decode cX0_typosOf 11 = .ok (.iload_n 3, 1) := by decide +kernel
theorem dX0_typosOf_12 : decode cX0_typosOf 12 = .ok (.aload_n 0, 1) := by decide +kernel
theorem dX0_typosOf_13 : decode cX0_typosOf 13 = .ok (.getfield 7, 3) := by decide +kernel
theorem dX0_typosOf_16 : decode cX0_typosOf 16 = .ok (.iload_n 1, 1) := by decide +kernel
theorem dX0_typosOf_17 : decode cX0_typosOf 17 = .ok (.baload, 1) := by decide +kernel
theorem dX0_typosOf_18 : decode cX0_typosOf 18 = .ok (.if_icmp .ge 43, 3) := by decide +kernel
theorem dX0_typosOf_21 : decode cX0_typosOf 21 = .ok (.aload_n 0, 1) := by decide +kernel
theorem dX0_typosOf_22 : decode cX0_typosOf 22 = .ok (.aload_n 0, 1) := by decide +kernel
theorem dX0_typosOf_23 : decode cX0_typosOf 23 = .ok (.getfield 16, 3) := by decide +kernel
theorem dX0_typosOf_26 : decode cX0_typosOf 26 = .ok (.iload_n 1, 1) := by decide +kernel
theorem dX0_typosOf_27 : decode cX0_typosOf 27 = .ok (.bipush 6, 2) := by decide +kernel
theorem dX0_typosOf_29 : decode cX0_typosOf 29 = .ok (.imul, 1) := by decide +kernel
theorem dX0_typosOf_30 : decode cX0_typosOf 30 = .ok (.iload_n 3, 1) := by decide +kernel
theorem dX0_typosOf_31 : decode cX0_typosOf 31 = .ok (.iadd, 1) := by decide +kernel
theorem dX0_typosOf_32 : decode cX0_typosOf 32 = .ok (.baload, 1) := by decide +kernel
theorem dX0_typosOf_33 : decode cX0_typosOf 33 = .ok (.invokevirtual 72, 3) := by decide +kernel
theorem dX0_typosOf_36 : decode cX0_typosOf 36 = .ok (.aload_n 0, 1) := by decide +kernel
theorem dX0_typosOf_37 : decode cX0_typosOf 37 = .ok (.invokevirtual 69, 3) := by decide +kernel
theorem dX0_typosOf_40 : decode cX0_typosOf 40 = .ok (.istore 4, 2) := by decide +kernel
theorem dX0_typosOf_42 : decode cX0_typosOf 42 = .ok (.iload 4, 2) := by decide +kernel
theorem dX0_typosOf_44 : decode cX0_typosOf 44 = .ok (.iload_n 2, 1) := by decide +kernel
theorem dX0_typosOf_45 : decode cX0_typosOf 45 = .ok (.if_icmp .ge 8, 3) := by decide +kernel
theorem dX0_typosOf_48 : decode cX0_typosOf 48 = .ok (.iload 4, 2) := by decide +kernel
theorem dX0_typosOf_50 : decode cX0_typosOf 50 = .ok (.goto 4, 3) := by decide +kernel
theorem dX0_typosOf_53 : decode cX0_typosOf 53 = .ok (.iload_n 2, 1) := by decide +kernel
theorem dX0_typosOf_54 : decode cX0_typosOf 54 = .ok (.istore_n 2, 1) := by decide +kernel
theorem dX0_typosOf_55 : decode cX0_typosOf 55 = .ok (.iinc 3 1, 3) := by decide +kernel
theorem dX0_typosOf_58 : decode cX0_typosOf 58 = .ok (.goto (-47), 3) := by decide +kernel
theorem dX0_typosOf_61 : decode cX0_typosOf 61 = .ok (.iload_n 2, 1) := by decide +kernel
theorem dX0_typosOf_62 : decode cX0_typosOf 62 = .ok (.ireturn, 1) := by decide +kernel
abbrev cX0_setOut : ByteArray := prog_1_method_13_code
def yX0_setOut : MethodName := ⟨RX0, "setOut", "()V"⟩
theorem dX0_setOut_0 : decode cX0_setOut 0 = .ok (.iconst 0, 1) := by decide +kernel
theorem dX0_setOut_1 : decode cX0_setOut 1 = .ok (.istore_n 1, 1) := by decide +kernel
theorem dX0_setOut_2 : decode cX0_setOut 2 = .ok (.iload_n 1, 1) := by decide +kernel
theorem dX0_setOut_3 : decode cX0_setOut 3 = .ok (.iconst 4, 1) := by decide +kernel
theorem dX0_setOut_4 : decode cX0_setOut 4 = .ok (.if_icmp .ge 16, 3) := by decide +kernel
theorem dX0_setOut_7 : decode cX0_setOut 7 = .ok (.aload_n 0, 1) := by decide +kernel
theorem dX0_setOut_8 : decode cX0_setOut 8 = .ok (.getfield 22, 3) := by decide +kernel
theorem dX0_setOut_11 : decode cX0_setOut 11 = .ok (.iload_n 1, 1) := by decide +kernel
theorem dX0_setOut_12 : decode cX0_setOut 12 = .ok (.iconst 0, 1) := by decide +kernel
theorem dX0_setOut_13 : decode cX0_setOut 13 = .ok (.bastore, 1) := by decide +kernel
theorem dX0_setOut_14 : decode cX0_setOut 14 = .ok (.iinc 1 1, 3) := by decide +kernel
theorem dX0_setOut_17 : decode cX0_setOut 17 = .ok (.goto (-15), 3) := by decide +kernel
theorem dX0_setOut_20 : decode cX0_setOut 20 = .ok (.iconst 0, 1) := by decide +kernel
theorem dX0_setOut_21 : decode cX0_setOut 21 = .ok (.istore_n 1, 1) := by decide +kernel
theorem dX0_setOut_22 : decode cX0_setOut 22 = .ok (.iload_n 1, 1) := by decide +kernel
theorem dX0_setOut_23 : decode cX0_setOut 23 = .ok (.aload_n 0, 1) := by decide +kernel
theorem dX0_setOut_24 : decode cX0_setOut 24 = .ok (.getfield 43, 3) := by decide +kernel
theorem dX0_setOut_27 : decode cX0_setOut 27 = .ok (.if_icmp .ge 33, 3) := by decide +kernel
theorem dX0_setOut_30 : decode cX0_setOut 30 = .ok (.aload_n 0, 1) := by decide +kernel
theorem dX0_setOut_31 : decode cX0_setOut 31 = .ok (.getfield 19, 3) := by decide +kernel
theorem dX0_setOut_34 : decode cX0_setOut 34 = .ok (.iload_n 1, 1) := by decide +kernel
theorem dX0_setOut_35 : decode cX0_setOut 35 = .ok (.baload, 1) := by decide +kernel
theorem dX0_setOut_36 : decode cX0_setOut 36 = .ok (.istore_n 2, 1) := by decide +kernel
theorem dX0_setOut_37 : decode cX0_setOut 37 = .ok (.aload_n 0, 1) := by decide +kernel
theorem dX0_setOut_38 : decode cX0_setOut 38 = .ok (.getfield 22, 3) := by decide +kernel
theorem dX0_setOut_41 : decode cX0_setOut 41 = .ok (.iload_n 2, 1) := by decide +kernel
theorem dX0_setOut_42 : decode cX0_setOut 42 = .ok (.aload_n 0, 1) := by decide +kernel
theorem dX0_setOut_43 : decode cX0_setOut 43 = .ok (.getfield 22, 3) := by decide +kernel
theorem dX0_setOut_46 : decode cX0_setOut 46 = .ok (.iload_n 2, 1) := by decide +kernel
theorem dX0_setOut_47 : decode cX0_setOut 47 = .ok (.baload, 1) := by decide +kernel
theorem dX0_setOut_48 : decode cX0_setOut 48 = .ok (.iconst 1, 1) := by decide +kernel
theorem dX0_setOut_49 : decode cX0_setOut 49 = .ok (.iload_n 1, 1) := by decide +kernel
theorem dX0_setOut_50 : decode cX0_setOut 50 = .ok (.ishl, 1) := by decide +kernel
theorem dX0_setOut_51 : decode cX0_setOut 51 = .ok (.ior, 1) := by decide +kernel
theorem dX0_setOut_52 : decode cX0_setOut 52 = .ok (.i2b, 1) := by decide +kernel
theorem dX0_setOut_53 : decode cX0_setOut 53 = .ok (.bastore, 1) := by decide +kernel
theorem dX0_setOut_54 : decode cX0_setOut 54 = .ok (.iinc 1 1, 3) := by decide +kernel
theorem dX0_setOut_57 : decode cX0_setOut 57 = .ok (.goto (-35), 3) := by decide +kernel
theorem dX0_setOut_60 : decode cX0_setOut 60 = .ok (.aload_n 0, 1) := by decide +kernel
theorem dX0_setOut_61 : decode cX0_setOut 61 = .ok (.iconst 1, 1) := by decide +kernel
theorem dX0_setOut_62 : decode cX0_setOut 62 = .ok (.putfield 50, 3) := by decide +kernel
theorem dX0_setOut_65 : decode cX0_setOut 65 = .ok (.aload_n 0, 1) := by decide +kernel
theorem dX0_setOut_66 : decode cX0_setOut 66 = .ok (.iconst 0, 1) := by decide +kernel
theorem dX0_setOut_67 : decode cX0_setOut 67 = .ok (.putfield 53, 3) := by decide +kernel
theorem dX0_setOut_70 : decode cX0_setOut 70 = .ok (.aload_n 0, 1) := by decide +kernel
theorem dX0_setOut_71 : decode cX0_setOut 71 = .ok (.iconst 0, 1) := by decide +kernel
theorem dX0_setOut_72 : decode cX0_setOut 72 = .ok (.putfield 56, 3) := by decide +kernel
theorem dX0_setOut_75 : decode cX0_setOut 75 = .ok (.aload_n 0, 1) := by decide +kernel
theorem dX0_setOut_76 : decode cX0_setOut 76 = .ok (.invokevirtual 59, 3) := by decide +kernel
theorem dX0_setOut_79 : decode cX0_setOut 79 = .ok (.return_, 1) := by decide +kernel
abbrev cX0_leaveOut : ByteArray := prog_1_method_15_code
def yX0_leaveOut : MethodName := ⟨RX0, "leaveOut", "()V"⟩
theorem dX0_leaveOut_0 : decode cX0_leaveOut 0 = .ok (.aload_n 0, 1) := by decide +kernel
theorem dX0_leaveOut_1 : decode cX0_leaveOut 1 = .ok (.dup, 1) := by decide +kernel
theorem dX0_leaveOut_2 : decode cX0_leaveOut 2 = .ok (.getfield 53, 3) := by decide +kernel
theorem dX0_leaveOut_5 : decode cX0_leaveOut 5 = .ok (.aload_n 0, 1) := by decide +kernel
theorem dX0_leaveOut_6 : decode cX0_leaveOut 6 = .ok (.aload_n 0, 1) := by decide +kernel
theorem dX0_leaveOut_7 : decode cX0_leaveOut 7 = .ok (.getfield 50, 3) := by decide +kernel
theorem dX0_leaveOut_10 : decode cX0_leaveOut 10 = .ok (.iconst 0, 1) := by decide +kernel
theorem dX0_leaveOut_11 : decode cX0_leaveOut 11 = .ok (.invokevirtual 62, 3) := by decide +kernel
theorem dX0_leaveOut_14 : decode cX0_leaveOut 14 = .ok (.iconst 1, 1) := by decide +kernel
theorem dX0_leaveOut_15 : decode cX0_leaveOut 15 = .ok (.ishl, 1) := by decide +kernel
theorem dX0_leaveOut_16 : decode cX0_leaveOut 16 = .ok (.ior, 1) := by decide +kernel
theorem dX0_leaveOut_17 : decode cX0_leaveOut 17 = .ok (.putfield 53, 3) := by decide +kernel
theorem dX0_leaveOut_20 : decode cX0_leaveOut 20 = .ok (.aload_n 0, 1) := by decide +kernel
theorem dX0_leaveOut_21 : decode cX0_leaveOut 21 = .ok (.dup, 1) := by decide +kernel
theorem dX0_leaveOut_22 : decode cX0_leaveOut 22 = .ok (.getfield 56, 3) := by decide +kernel
theorem dX0_leaveOut_25 : decode cX0_leaveOut 25 = .ok (.aload_n 0, 1) := by decide +kernel
theorem dX0_leaveOut_26 : decode cX0_leaveOut 26 = .ok (.aload_n 0, 1) := by decide +kernel
theorem dX0_leaveOut_27 : decode cX0_leaveOut 27 = .ok (.getfield 53, 3) := by decide +kernel
theorem dX0_leaveOut_30 : decode cX0_leaveOut 30 = .ok (.iconst 0, 1) := by decide +kernel
theorem dX0_leaveOut_31 : decode cX0_leaveOut 31 = .ok (.invokevirtual 62, 3) := by decide +kernel
theorem dX0_leaveOut_34 : decode cX0_leaveOut 34 = .ok (.iconst 1, 1) := by decide +kernel
theorem dX0_leaveOut_35 : decode cX0_leaveOut 35 = .ok (.ishl, 1) := by decide +kernel
theorem dX0_leaveOut_36 : decode cX0_leaveOut 36 = .ok (.ior, 1) := by decide +kernel
theorem dX0_leaveOut_37 : decode cX0_leaveOut 37 = .ok (.putfield 56, 3) := by decide +kernel
theorem dX0_leaveOut_40 : decode cX0_leaveOut 40 = .ok (.aload_n 0, 1) := by decide +kernel
theorem dX0_leaveOut_41 : decode cX0_leaveOut 41 = .ok (.dup, 1) := by decide +kernel
theorem dX0_leaveOut_42 : decode cX0_leaveOut 42 = .ok (.getfield 56, 3) := by decide +kernel
theorem dX0_leaveOut_45 : decode cX0_leaveOut 45 = .ok (.aload_n 0, 1) := by decide +kernel
theorem dX0_leaveOut_46 : decode cX0_leaveOut 46 = .ok (.aload_n 0, 1) := by decide +kernel
theorem dX0_leaveOut_47 : decode cX0_leaveOut 47 = .ok (.getfield 50, 3) := by decide +kernel
theorem dX0_leaveOut_50 : decode cX0_leaveOut 50 = .ok (.iconst 1, 1) := by decide +kernel
theorem dX0_leaveOut_51 : decode cX0_leaveOut 51 = .ok (.invokevirtual 62, 3) := by decide +kernel
theorem dX0_leaveOut_54 : decode cX0_leaveOut 54 = .ok (.iconst 1, 1) := by decide +kernel
theorem dX0_leaveOut_55 : decode cX0_leaveOut 55 = .ok (.ishl, 1) := by decide +kernel
theorem dX0_leaveOut_56 : decode cX0_leaveOut 56 = .ok (.ior, 1) := by decide +kernel
theorem dX0_leaveOut_57 : decode cX0_leaveOut 57 = .ok (.putfield 56, 3) := by decide +kernel
theorem dX0_leaveOut_60 : decode cX0_leaveOut 60 = .ok (.return_, 1) := by decide +kernel
abbrev cX0_movable : ByteArray := prog_1_method_14_code
def yX0_movable : MethodName := ⟨RX0, "movable", "(IZ)I"⟩
theorem dX0_movable_0 : decode cX0_movable 0 = .ok (.iload_n 1, 1) := by decide +kernel
theorem dX0_movable_1 : decode cX0_movable 1 = .ok (.iconst 1, 1) := by decide +kernel
theorem dX0_movable_2 : decode cX0_movable 2 = .ok (.aload_n 0, 1) := by decide +kernel
theorem dX0_movable_3 : decode cX0_movable 3 = .ok (.getfield 43, 3) := by decide +kernel
theorem dX0_movable_6 : decode cX0_movable 6 = .ok (.ishl, 1) := by decide +kernel
theorem dX0_movable_7 : decode cX0_movable 7 = .ok (.iconst 1, 1) := by decide +kernel
theorem dX0_movable_8 : decode cX0_movable 8 = .ok (.isub, 1) := by decide +kernel
theorem dX0_movable_9 : decode cX0_movable 9 = .ok (.iand, 1) := by decide +kernel
theorem dX0_movable_10 : decode cX0_movable 10 = .ok (.istore_n 3, 1) := by decide +kernel
theorem dX0_movable_11 : decode cX0_movable 11 = .ok (.iload_n 2, 1) := by decide +kernel
theorem dX0_movable_12 : decode cX0_movable 12 = .ok (.ifCond .eq 9, 3) := by decide +kernel
theorem dX0_movable_15 : decode cX0_movable 15 = .ok (.iload_n 3, 1) := by decide +kernel
theorem dX0_movable_16 : decode cX0_movable 16 = .ok (.iconst 1, 1) := by decide +kernel
theorem dX0_movable_17 : decode cX0_movable 17 = .ok (.iand, 1) := by decide +kernel
theorem dX0_movable_18 : decode cX0_movable 18 = .ok (.goto 7, 3) := by decide +kernel
theorem dX0_movable_21 : decode cX0_movable 21 = .ok (.iload_n 3, 1) := by decide +kernel
theorem dX0_movable_22 : decode cX0_movable 22 = .ok (.bipush (-2), 2) := by decide +kernel
theorem dX0_movable_24 : decode cX0_movable 24 = .ok (.iand, 1) := by decide +kernel
theorem dX0_movable_25 : decode cX0_movable 25 = .ok (.ireturn, 1) := by decide +kernel
end
section
set_option maxRecDepth 100000
abbrev cX0_reached : ByteArray := prog_1_method_17_code
def yX0_reached : MethodName := ⟨RX0, "reached", "()I"⟩
theorem dX0_reached_0 : decode cX0_reached 0 = .ok (.iconst 1, 1) := by decide +kernel
theorem dX0_reached_1 : decode cX0_reached 1 = .ok (.aload_n 0, 1) := by decide +kernel
theorem dX0_reached_2 : decode cX0_reached 2 = .ok (.getfield 43, 3) := by decide +kernel
theorem dX0_reached_5 : decode cX0_reached 5 = .ok (.ishl, 1) := by decide +kernel
theorem dX0_reached_6 : decode cX0_reached 6 = .ok (.istore_n 1, 1) := by decide +kernel
theorem dX0_reached_7 : decode cX0_reached 7 = .ok (.aload_n 0, 1) := by decide +kernel
theorem dX0_reached_8 : decode cX0_reached 8 = .ok (.getfield 50, 3) := by decide +kernel
theorem dX0_reached_11 : decode cX0_reached 11 = .ok (.iload_n 1, 1) := by decide +kernel
theorem dX0_reached_12 : decode cX0_reached 12 = .ok (.iand, 1) := by decide +kernel
theorem dX0_reached_13 : decode cX0_reached 13 = .ok (.ifCond .eq 5, 3) := by decide +kernel
theorem dX0_reached_16 : decode cX0_reached 16 = .ok (.iconst 0, 1) := by decide +kernel
theorem dX0_reached_17 : decode cX0_reached 17 = .ok (.ireturn, 1) := by decide +kernel
theorem dX0_reached_18 : decode cX0_reached 18 = .ok (.aload_n 0, 1) := by decide +kernel
theorem dX0_reached_19 : decode cX0_reached 19 = .ok (.getfield 53, 3) := by decide +kernel
theorem dX0_reached_22 : decode cX0_reached 22 = .ok (.iload_n 1, 1) := by decide +kernel
theorem dX0_reached_23 : decode cX0_reached 23 = .ok (.iand, 1) := by decide +kernel
theorem dX0_reached_24 : decode cX0_reached 24 = .ok (.ifCond .eq 5, 3) := by decide +kernel
theorem dX0_reached_27 : decode cX0_reached 27 = .ok (.iconst 1, 1) := by decide +kernel
theorem dX0_reached_28 : decode cX0_reached 28 = .ok (.ireturn, 1) := by decide +kernel
theorem dX0_reached_29 : decode cX0_reached 29 = .ok (.aload_n 0, 1) := by decide +kernel
theorem dX0_reached_30 : decode cX0_reached 30 = .ok (.getfield 56, 3) := by decide +kernel
theorem dX0_reached_33 : decode cX0_reached 33 = .ok (.iload_n 1, 1) := by decide +kernel
theorem dX0_reached_34 : decode cX0_reached 34 = .ok (.iand, 1) := by decide +kernel
theorem dX0_reached_35 : decode cX0_reached 35 = .ok (.ifCond .eq 7, 3) := by decide +kernel
theorem dX0_reached_38 : decode cX0_reached 38 = .ok (.iconst 2, 1) := by decide +kernel
theorem dX0_reached_39 : decode cX0_reached 39 = .ok (.goto 4, 3) := by decide +kernel
theorem dX0_reached_42 : decode cX0_reached 42 = .ok (.iconst 3, 1) := by decide +kernel
theorem dX0_reached_43 : decode cX0_reached 43 = .ok (.ireturn, 1) := by decide +kernel
abbrev cX0_advance : ByteArray := prog_1_method_16_code
def yX0_advance : MethodName := ⟨RX0, "advance", "(I)V"⟩
theorem dX0_advance_0 : decode cX0_advance 0 = .ok (.aload_n 0, 1) := by decide +kernel
theorem dX0_advance_1 : decode cX0_advance 1 = .ok (.getfield 22, 3) := by decide +kernel
theorem dX0_advance_4 : decode cX0_advance 4 = .ok (.iload_n 1, 1) := by decide +kernel
theorem dX0_advance_5 : decode cX0_advance 5 = .ok (.baload, 1) := by decide +kernel
theorem dX0_advance_6 : decode cX0_advance 6 = .ok (.istore_n 2, 1) := by decide +kernel
theorem dX0_advance_7 : decode cX0_advance 7 = .ok (.aload_n 0, 1) := by decide +kernel
theorem dX0_advance_8 : decode cX0_advance 8 = .ok (.getfield 56, 3) := by decide +kernel
theorem dX0_advance_11 : decode cX0_advance 11 = .ok (.iload_n 2, 1) := by decide +kernel
theorem dX0_advance_12 : decode cX0_advance 12 = .ok (.iand, 1) := by decide +kernel
theorem dX0_advance_13 : decode cX0_advance 13 = .ok (.iconst 1, 1) := by decide +kernel
theorem dX0_advance_14 : decode cX0_advance 14 = .ok (.ishl, 1) := by decide +kernel
theorem dX0_advance_15 : decode cX0_advance 15 = .ok (.aload_n 0, 1) := by decide +kernel
theorem dX0_advance_16 : decode cX0_advance 16 = .ok (.aload_n 0, 1) := by decide +kernel
theorem dX0_advance_17 : decode cX0_advance 17 = .ok (.getfield 53, 3) := by decide +kernel
theorem dX0_advance_20 : decode cX0_advance 20 = .ok (.iconst 0, 1) := by decide +kernel
theorem dX0_advance_21 : decode cX0_advance 21 = .ok (.invokevirtual 62, 3) := by decide +kernel
theorem dX0_advance_24 : decode cX0_advance 24 = .ok (.iconst 1, 1) := by decide +kernel
theorem dX0_advance_25 : decode cX0_advance 25 = .ok (.ishl, 1) := by decide +kernel
theorem dX0_advance_26 : decode cX0_advance 26 = .ok (.ior, 1) := by decide +kernel
theorem dX0_advance_27 : decode cX0_advance 27 = .ok (.aload_n 0, 1) := by decide +kernel
theorem dX0_advance_28 : decode cX0_advance 28 = .ok (.getfield 53, 3) := by decide +kernel
theorem dX0_advance_31 : decode cX0_advance 31 = .ok (.bipush (-2), 2) := by decide +kernel
theorem dX0_advance_33 : decode cX0_advance 33 = .ok (.iand, 1) := by decide +kernel
theorem dX0_advance_34 : decode cX0_advance 34 = .ok (.ior, 1) := by decide +kernel
theorem dX0_advance_35 : decode cX0_advance 35 = .ok (.istore_n 3, 1) := by decide +kernel
theorem dX0_advance_36 : decode cX0_advance 36 = .ok (.iload_n 3, 1) := by decide +kernel
theorem dX0_advance_37 : decode cX0_advance 37 = .ok (.aload_n 0, 1) := by decide +kernel
theorem dX0_advance_38 : decode cX0_advance 38 = .ok (.aload_n 0, 1) := by decide +kernel
theorem dX0_advance_39 : decode cX0_advance 39 = .ok (.getfield 50, 3) := by decide +kernel
theorem dX0_advance_42 : decode cX0_advance 42 = .ok (.iconst 1, 1) := by decide +kernel
theorem dX0_advance_43 : decode cX0_advance 43 = .ok (.invokevirtual 62, 3) := by decide +kernel
theorem dX0_advance_46 : decode cX0_advance 46 = .ok (.iconst 1, 1) := by decide +kernel
theorem dX0_advance_47 : decode cX0_advance 47 = .ok (.ishl, 1) := by decide +kernel
theorem dX0_advance_48 : decode cX0_advance 48 = .ok (.aload_n 0, 1) := by decide +kernel
theorem dX0_advance_49 : decode cX0_advance 49 = .ok (.getfield 50, 3) := by decide +kernel
theorem dX0_advance_52 : decode cX0_advance 52 = .ok (.iconst 1, 1) := by decide +kernel
theorem dX0_advance_53 : decode cX0_advance 53 = .ok (.iand, 1) := by decide +kernel
theorem dX0_advance_54 : decode cX0_advance 54 = .ok (.ior, 1) := by decide +kernel
theorem dX0_advance_55 : decode cX0_advance 55 = .ok (.ior, 1) := by decide +kernel
theorem dX0_advance_56 : decode cX0_advance 56 = .ok (.istore_n 3, 1) := by decide +kernel
theorem dX0_advance_57 : decode cX0_advance 57 = .ok (.aload_n 0, 1) := by decide +kernel
theorem dX0_advance_58 : decode cX0_advance 58 = .ok (.getfield 53, 3) := by decide +kernel
theorem dX0_advance_61 : decode cX0_advance 61 = .ok (.iload_n 2, 1) := by decide +kernel
theorem dX0_advance_62 : decode cX0_advance 62 = .ok (.iand, 1) := by decide +kernel
theorem dX0_advance_63 : decode cX0_advance 63 = .ok (.iconst 1, 1) := by decide +kernel
theorem dX0_advance_64 : decode cX0_advance 64 = .ok (.ishl, 1) := by decide +kernel
theorem dX0_advance_65 : decode cX0_advance 65 = .ok (.aload_n 0, 1) := by decide +kernel
theorem dX0_advance_66 : decode cX0_advance 66 = .ok (.aload_n 0, 1) := by decide +kernel
theorem dX0_advance_67 : decode cX0_advance 67 = .ok (.getfield 50, 3) := by decide +kernel
theorem dX0_advance_70 : decode cX0_advance 70 = .ok (.iconst 0, 1) := by decide +kernel
theorem dX0_advance_71 : decode cX0_advance 71 = .ok (.invokevirtual 62, 3) := by decide +kernel
theorem dX0_advance_74 : decode cX0_advance 74 = .ok (.iconst 1, 1) := by decide +kernel
theorem dX0_advance_75 : decode cX0_advance 75 = .ok (.ishl, 1) := by decide +kernel
theorem dX0_advance_76 : decode cX0_advance 76 = .ok (.ior, 1) := by decide +kernel
theorem dX0_advance_77 : decode cX0_advance 77 = .ok (.aload_n 0, 1) := by decide +kernel
theorem dX0_advance_78 : decode cX0_advance 78 = .ok (.getfield 50, 3) := by decide +kernel
theorem dX0_advance_81 : decode cX0_advance 81 = .ok (.bipush (-2), 2) := by decide +kernel
theorem dX0_advance_83 : decode cX0_advance 83 = .ok (.iand, 1) := by decide +kernel
theorem dX0_advance_84 : decode cX0_advance 84 = .ok (.ior, 1) := by decide +kernel
theorem dX0_advance_85 : decode cX0_advance 85 = .ok (.istore 4, 2) := by decide +kernel
theorem dX0_advance_87 : decode cX0_advance 87 = .ok (.aload_n 0, 1) := by decide +kernel
theorem dX0_advance_88 : decode cX0_advance 88 = .ok (.aload_n 0, 1) := by decide +kernel
theorem dX0_advance_89 : decode cX0_advance 89 = .ok (.getfield 50, 3) := by decide +kernel
theorem dX0_advance_92 : decode cX0_advance 92 = .ok (.iload_n 2, 1) := by decide +kernel
theorem dX0_advance_93 : decode cX0_advance 93 = .ok (.iand, 1) := by decide +kernel
theorem dX0_advance_94 : decode cX0_advance 94 = .ok (.iconst 1, 1) := by decide +kernel
theorem dX0_advance_95 : decode cX0_advance 95 = .ok (.ishl, 1) := by decide +kernel
theorem dX0_advance_96 : decode cX0_advance 96 = .ok (.putfield 50, 3) := by decide +kernel
theorem dX0_advance_99 : decode cX0_advance 99 = .ok (.aload_n 0, 1) := by decide +kernel
theorem dX0_advance_100 : decode cX0_advance 100 = .ok (.iload 4, 2) := by decide +kernel
theorem dX0_advance_102 : decode cX0_advance 102 = .ok (.putfield 53, 3) := by decide +kernel
theorem dX0_advance_105 : decode cX0_advance 105 = .ok (.aload_n 0, 1) := by decide +kernel
theorem dX0_advance_106 : decode cX0_advance 106 = .ok (.iload_n 3, 1) := by decide +kernel
theorem dX0_advance_107 : decode cX0_advance 107 = .ok (.putfield 56, 3) := by decide +kernel
theorem dX0_advance_110 : decode cX0_advance 110 = .ok (.aload_n 0, 1) := by decide +kernel
theorem dX0_advance_111 : decode cX0_advance 111 = .ok (.invokevirtual 59, 3) := by decide +kernel
theorem dX0_advance_114 : decode cX0_advance 114 = .ok (.return_, 1) := by decide +kernel
abbrev cX0_forgiven : ByteArray := prog_1_method_12_code
def yX0_forgiven : MethodName := ⟨RX0, "forgiven", "()I"⟩
theorem dX0_forgiven_0 : decode cX0_forgiven 0 = .ok (.aload_n 0, 1) := by decide +kernel
theorem dX0_forgiven_1 : decode cX0_forgiven 1 = .ok (.getfield 43, 3) := by decide +kernel
theorem dX0_forgiven_4 : decode cX0_forgiven 4 = .ok (.iconst 3, 1) := by decide +kernel
theorem dX0_forgiven_5 : decode cX0_forgiven 5 = .ok (.if_icmp .ge 5, 3) := by decide +kernel
theorem dX0_forgiven_8 : decode cX0_forgiven 8 = .ok (.iconst 0, 1) := by decide +kernel
theorem dX0_forgiven_9 : decode cX0_forgiven 9 = .ok (.ireturn, 1) := by decide +kernel
theorem dX0_forgiven_10 : decode cX0_forgiven 10 = .ok (.aload_n 0, 1) := by decide +kernel
theorem dX0_forgiven_11 : decode cX0_forgiven 11 = .ok (.getfield 43, 3) := by decide +kernel
theorem dX0_forgiven_14 : decode cX0_forgiven 14 = .ok (.iconst 5, 1) := by decide +kernel
theorem dX0_forgiven_15 : decode cX0_forgiven 15 = .ok (.if_icmp .ge 7, 3) := by decide +kernel
theorem dX0_forgiven_18 : decode cX0_forgiven 18 = .ok (.iconst 1, 1) := by decide +kernel
theorem dX0_forgiven_19 : decode cX0_forgiven 19 = .ok (.goto 4, 3) := by decide +kernel
theorem dX0_forgiven_22 : decode cX0_forgiven 22 = .ok (.iconst 2, 1) := by decide +kernel
theorem dX0_forgiven_23 : decode cX0_forgiven 23 = .ok (.ireturn, 1) := by decide +kernel
abbrev cX0_isFound : ByteArray := prog_1_method_22_code
def yX0_isFound : MethodName := ⟨RX0, "isFound", "(I)Z"⟩
theorem dX0_isFound_0 : decode cX0_isFound 0 = .ok (.aload_n 0, 1) := by decide +kernel
theorem dX0_isFound_1 : decode cX0_isFound 1 = .ok (.getfield 76, 3) := by decide +kernel
theorem dX0_isFound_4 : decode cX0_isFound 4 = .ok (.iload_n 1, 1) := by decide +kernel
theorem dX0_isFound_5 : decode cX0_isFound 5 = .ok (.ishr, 1) := by decide +kernel
theorem dX0_isFound_6 : decode cX0_isFound 6 = .ok (.iconst 1, 1) := by decide +kernel
theorem dX0_isFound_7 : decode cX0_isFound 7 = .ok (.iand, 1) := by decide +kernel
theorem dX0_isFound_8 : decode cX0_isFound 8 = .ok (.ifCond .eq 7, 3) := by decide +kernel
theorem dX0_isFound_11 : decode cX0_isFound 11 = .ok (.iconst 1, 1) := by decide +kernel
theorem dX0_isFound_12 : decode cX0_isFound 12 = .ok (.goto 4, 3) := by decide +kernel
theorem dX0_isFound_15 : decode cX0_isFound 15 = .ok (.iconst 0, 1) := by decide +kernel
theorem dX0_isFound_16 : decode cX0_isFound 16 = .ok (.ireturn, 1) := by decide +kernel
abbrev cX0_rub : ByteArray := prog_1_method_10_code
def yX0_rub : MethodName := ⟨RX0, "rub", "()I"⟩
theorem dX0_rub_0 : decode cX0_rub 0 = .ok (.aload_n 0, 1) := by decide +kernel
theorem dX0_rub_1 : decode cX0_rub 1 = .ok (.getfield 43, 3) := by decide +kernel
theorem dX0_rub_4 : decode cX0_rub 4 = .ok (.ifCond .ne 5, 3) := by decide +kernel
theorem dX0_rub_7 : decode cX0_rub 7 = .ok (.iconst (-1), 1) := by decide +kernel
theorem dX0_rub_8 : decode cX0_rub 8 = .ok (.ireturn, 1) := by decide +kernel
theorem dX0_rub_9 : decode cX0_rub 9 = .ok (.aload_n 0, 1) := by decide +kernel
theorem dX0_rub_10 : decode cX0_rub 10 = .ok (.dup, 1) := by decide +kernel
theorem dX0_rub_11 : decode cX0_rub 11 = .ok (.getfield 43, 3) := by decide +kernel
theorem dX0_rub_14 : decode cX0_rub 14 = .ok (.iconst 1, 1) := by decide +kernel
theorem dX0_rub_15 : decode cX0_rub 15 = .ok (.isub, 1) := by decide +kernel
theorem dX0_rub_16 : decode cX0_rub 16 = .ok (.putfield 43, 3) := by decide +kernel
theorem dX0_rub_19 : decode cX0_rub 19 = .ok (.aload_n 0, 1) := by decide +kernel
theorem dX0_rub_20 : decode cX0_rub 20 = .ok (.iconst 0, 1) := by decide +kernel
theorem dX0_rub_21 : decode cX0_rub 21 = .ok (.putfield 39, 3) := by decide +kernel
theorem dX0_rub_24 : decode cX0_rub 24 = .ok (.aload_n 0, 1) := by decide +kernel
theorem dX0_rub_25 : decode cX0_rub 25 = .ok (.getfield 19, 3) := by decide +kernel
theorem dX0_rub_28 : decode cX0_rub 28 = .ok (.aload_n 0, 1) := by decide +kernel
theorem dX0_rub_29 : decode cX0_rub 29 = .ok (.getfield 43, 3) := by decide +kernel
theorem dX0_rub_32 : decode cX0_rub 32 = .ok (.baload, 1) := by decide +kernel
theorem dX0_rub_33 : decode cX0_rub 33 = .ok (.ireturn, 1) := by decide +kernel
abbrev cX0_typed : ByteArray := prog_1_method_11_code
def yX0_typed : MethodName := ⟨RX0, "typed", "()I"⟩
theorem dX0_typed_0 : decode cX0_typed 0 = .ok (.aload_n 0, 1) := by decide +kernel
theorem dX0_typed_1 : decode cX0_typed 1 = .ok (.getfield 43, 3) := by decide +kernel
theorem dX0_typed_4 : decode cX0_typed 4 = .ok (.ireturn, 1) := by decide +kernel
abbrev cX0_typos : ByteArray := prog_1_method_24_code
def yX0_typos : MethodName := ⟨RX0, "typos", "(I)I"⟩
theorem dX0_typos_0 : decode cX0_typos 0 = .ok (.aload_n 0, 1) := by decide +kernel
theorem dX0_typos_1 : decode cX0_typos 1 = .ok (.iload_n 1, 1) := by decide +kernel
theorem dX0_typos_2 : decode cX0_typos 2 = .ok (.invokevirtual 36, 3) := by decide +kernel
theorem dX0_typos_5 : decode cX0_typos 5 = .ok (.ifCond .ne 5, 3) := by decide +kernel
theorem dX0_typos_8 : decode cX0_typos 8 = .ok (.iconst (-1), 1) := by decide +kernel
theorem dX0_typos_9 : decode cX0_typos 9 = .ok (.ireturn, 1) := by decide +kernel
theorem dX0_typos_10 : decode cX0_typos 10 = .ok (.aload_n 0, 1) := by decide +kernel
theorem dX0_typos_11 : decode cX0_typos 11 = .ok (.invokevirtual 89, 3) := by decide +kernel
theorem dX0_typos_14 : decode cX0_typos 14 = .ok (.aload_n 0, 1) := by decide +kernel
theorem dX0_typos_15 : decode cX0_typos 15 = .ok (.getfield 25, 3) := by decide +kernel
theorem dX0_typos_18 : decode cX0_typos 18 = .ok (.iload_n 1, 1) := by decide +kernel
theorem dX0_typos_19 : decode cX0_typos 19 = .ok (.baload, 1) := by decide +kernel
theorem dX0_typos_20 : decode cX0_typos 20 = .ok (.ireturn, 1) := by decide +kernel
abbrev cX0_found : ByteArray := prog_1_method_25_code
def yX0_found : MethodName := ⟨RX0, "found", "()I"⟩
theorem dX0_found_0 : decode cX0_found 0 = .ok (.aload_n 0, 1) := by decide +kernel
theorem dX0_found_1 : decode cX0_found 1 = .ok (.invokevirtual 89, 3) := by decide +kernel
theorem dX0_found_4 : decode cX0_found 4 = .ok (.aload_n 0, 1) := by decide +kernel
theorem dX0_found_5 : decode cX0_found 5 = .ok (.getfield 76, 3) := by decide +kernel
theorem dX0_found_8 : decode cX0_found 8 = .ok (.ireturn, 1) := by decide +kernel
abbrev cX0_at : ByteArray := prog_1_method_26_code
def yX0_at : MethodName := ⟨RX0, "at", "(I)I"⟩
theorem dX0_at_0 : decode cX0_at 0 = .ok (.aload_n 0, 1) := by decide +kernel
theorem dX0_at_1 : decode cX0_at 1 = .ok (.invokevirtual 89, 3) := by decide +kernel
theorem dX0_at_4 : decode cX0_at 4 = .ok (.iconst 0, 1) := by decide +kernel
theorem dX0_at_5 : decode cX0_at 5 = .ok (.istore_n 2, 1) := by decide +kernel
theorem dX0_at_6 : decode cX0_at 6 = .ok (.iload_n 2, 1) := by decide +kernel
theorem dX0_at_7 : decode cX0_at 7 = .ok (.bipush 10, 2) := by decide +kernel
theorem dX0_at_9 : decode cX0_at 9 = .ok (.if_icmp .ge 28, 3) := by decide +kernel
theorem dX0_at_12 : decode cX0_at 12 = .ok (.aload_n 0, 1) := by decide +kernel
theorem dX0_at_13 : decode cX0_at 13 = .ok (.iload_n 2, 1) := by decide +kernel
theorem dX0_at_14 : decode cX0_at 14 = .ok (.invokevirtual 92, 3) := by decide +kernel
theorem dX0_at_17 : decode cX0_at 17 = .ok (.ifCond .eq 14, 3) := by decide +kernel
theorem dX0_at_20 : decode cX0_at 20 = .ok (.aload_n 0, 1) := by decide +kernel
theorem dX0_at_21 : decode cX0_at 21 = .ok (.iload_n 2, 1) := by decide +kernel
theorem dX0_at_22 : decode cX0_at 22 = .ok (.invokevirtual 95, 3) := by decide +kernel
theorem dX0_at_25 : decode cX0_at 25 = .ok (.iload_n 1, 1) := by decide +kernel
theorem dX0_at_26 : decode cX0_at 26 = .ok (.if_icmp .ne 5, 3) := by decide +kernel
theorem dX0_at_29 : decode cX0_at 29 = .ok (.iload_n 2, 1) := by decide +kernel
theorem dX0_at_30 : decode cX0_at 30 = .ok (.ireturn, 1) := by decide +kernel
theorem dX0_at_31 : decode cX0_at 31 = .ok (.iinc 2 1, 3) := by decide +kernel
theorem dX0_at_34 : decode cX0_at 34 = .ok (.goto (-28), 3) := by decide +kernel
theorem dX0_at_37 : decode cX0_at 37 = .ok (.iconst (-1), 1) := by decide +kernel
theorem dX0_at_38 : decode cX0_at 38 = .ok (.ireturn, 1) := by decide +kernel
abbrev cX0_place : ByteArray := prog_1_method_27_code
def yX0_place : MethodName := ⟨RX0, "place", "(I)I"⟩
theorem dX0_place_0 : decode cX0_place 0 = .ok (.aload_n 0, 1) := by decide +kernel
theorem dX0_place_1 : decode cX0_place 1 = .ok (.iload_n 1, 1) := by decide +kernel
theorem dX0_place_2 : decode cX0_place 2 = .ok (.invokevirtual 36, 3) := by decide +kernel
theorem dX0_place_5 : decode cX0_place 5 = .ok (.ifCond .ne 5, 3) := by decide +kernel
theorem dX0_place_8 : decode cX0_place 8 = .ok (.iconst (-1), 1) := by decide +kernel
theorem dX0_place_9 : decode cX0_place 9 = .ok (.ireturn, 1) := by decide +kernel
theorem dX0_place_10 : decode cX0_place 10 = .ok (.aload_n 0, 1) := by decide +kernel
theorem dX0_place_11 : decode cX0_place 11 = .ok (.invokevirtual 89, 3) := by decide +kernel
theorem dX0_place_14 : decode cX0_place 14 = .ok (.aload_n 0, 1) := by decide +kernel
theorem dX0_place_15 : decode cX0_place 15 = .ok (.iload_n 1, 1) := by decide +kernel
theorem dX0_place_16 : decode cX0_place 16 = .ok (.invokevirtual 92, 3) := by decide +kernel
theorem dX0_place_19 : decode cX0_place 19 = .ok (.ifCond .ne 5, 3) := by decide +kernel
theorem dX0_place_22 : decode cX0_place 22 = .ok (.iconst (-1), 1) := by decide +kernel
theorem dX0_place_23 : decode cX0_place 23 = .ok (.ireturn, 1) := by decide +kernel
theorem dX0_place_24 : decode cX0_place 24 = .ok (.iconst 0, 1) := by decide +kernel
theorem dX0_place_25 : decode cX0_place 25 = .ok (.istore_n 2, 1) := by decide +kernel
theorem dX0_place_26 : decode cX0_place 26 = .ok (.iconst 0, 1) := by decide +kernel
theorem dX0_place_27 : decode cX0_place 27 = .ok (.istore_n 3, 1) := by decide +kernel
theorem dX0_place_28 : decode cX0_place 28 = .ok (.iload_n 3, 1) := by decide +kernel
theorem dX0_place_29 : decode cX0_place 29 = .ok (.bipush 10, 2) := by decide +kernel
theorem dX0_place_31 : decode cX0_place 31 = .ok (.if_icmp .ge 39, 3) := by decide +kernel
theorem dX0_place_34 : decode cX0_place 34 = .ok (.iload_n 2, 1) := by decide +kernel
theorem dX0_place_35 : decode cX0_place 35 = .ok (.iload_n 3, 1) := by decide +kernel
theorem dX0_place_36 : decode cX0_place 36 = .ok (.iload_n 1, 1) := by decide +kernel
theorem dX0_place_37 : decode cX0_place 37 = .ok (.if_icmp .eq 24, 3) := by decide +kernel
theorem dX0_place_40 : decode cX0_place 40 = .ok (.aload_n 0, 1) := by decide +kernel
theorem dX0_place_41 : decode cX0_place 41 = .ok (.iload_n 3, 1) := by decide +kernel
theorem dX0_place_42 : decode cX0_place 42 = .ok (.invokevirtual 92, 3) := by decide +kernel
theorem dX0_place_45 : decode cX0_place 45 = .ok (.ifCond .eq 16, 3) := by decide +kernel
theorem dX0_place_48 : decode cX0_place 48 = .ok (.aload_n 0, 1) := by decide +kernel
theorem dX0_place_49 : decode cX0_place 49 = .ok (.iload_n 3, 1) := by decide +kernel
theorem dX0_place_50 : decode cX0_place 50 = .ok (.iload_n 1, 1) := by decide +kernel
theorem dX0_place_51 : decode cX0_place 51 = .ok (.invokevirtual 98, 3) := by decide +kernel
theorem dX0_place_54 : decode cX0_place 54 = .ok (.ifCond .eq 7, 3) := by decide +kernel
theorem dX0_place_57 : decode cX0_place 57 = .ok (.iconst 1, 1) := by decide +kernel
theorem dX0_place_58 : decode cX0_place 58 = .ok (.goto 4, 3) := by decide +kernel
theorem dX0_place_61 : decode cX0_place 61 = .ok (.iconst 0, 1) := by decide +kernel
theorem dX0_place_62 : decode cX0_place 62 = .ok (.iadd, 1) := by decide +kernel
theorem dX0_place_63 : decode cX0_place 63 = .ok (.istore_n 2, 1) := by decide +kernel
theorem dX0_place_64 : decode cX0_place 64 = .ok (.iinc 3 1, 3) := by decide +kernel
theorem dX0_place_67 : decode cX0_place 67 = .ok (.goto (-39), 3) := by decide +kernel
theorem dX0_place_70 : decode cX0_place 70 = .ok (.iload_n 2, 1) := by decide +kernel
theorem dX0_place_71 : decode cX0_place 71 = .ok (.ireturn, 1) := by decide +kernel
abbrev cX0_goesBefore : ByteArray := prog_1_method_21_code
def yX0_goesBefore : MethodName := ⟨RX0, "goesBefore", "(II)Z"⟩
theorem dX0_goesBefore_0 : decode cX0_goesBefore 0 = .ok (.aload_n 0, 1) := by decide +kernel
theorem dX0_goesBefore_1 : decode cX0_goesBefore 1 = .ok (.getfield 25, 3) := by decide +kernel
theorem dX0_goesBefore_4 : decode cX0_goesBefore 4 = .ok (.iload_n 1, 1) := by decide +kernel
theorem dX0_goesBefore_5 : decode cX0_goesBefore 5 = .ok (.baload, 1) := by decide +kernel
theorem dX0_goesBefore_6 : decode cX0_goesBefore 6 = .ok (.aload_n 0, 1) := by decide +kernel
theorem dX0_goesBefore_7 : decode cX0_goesBefore 7 = .ok (.getfield 25, 3) := by decide +kernel
theorem dX0_goesBefore_10 : decode cX0_goesBefore 10 = .ok (.iload_n 2, 1) := by decide +kernel
theorem dX0_goesBefore_11 : decode cX0_goesBefore 11 = .ok (.baload, 1) := by decide +kernel
theorem dX0_goesBefore_12 : decode cX0_goesBefore 12 = .ok (.if_icmp .eq 24, 3) := by decide +kernel
theorem dX0_goesBefore_15 : decode cX0_goesBefore 15 = .ok (.aload_n 0, 1) := by decide +kernel
theorem dX0_goesBefore_16 : decode cX0_goesBefore 16 = .ok (.getfield 25, 3) := by decide +kernel
theorem dX0_goesBefore_19 : decode cX0_goesBefore 19 = .ok (.iload_n 1, 1) := by decide +kernel
theorem dX0_goesBefore_20 : decode cX0_goesBefore 20 = .ok (.baload, 1) := by decide +kernel
theorem dX0_goesBefore_21 : decode cX0_goesBefore 21 = .ok (.aload_n 0, 1) := by decide +kernel
theorem dX0_goesBefore_22 : decode cX0_goesBefore 22 = .ok (.getfield 25, 3) := by decide +kernel
theorem dX0_goesBefore_25 : decode cX0_goesBefore 25 = .ok (.iload_n 2, 1) := by decide +kernel
theorem dX0_goesBefore_26 : decode cX0_goesBefore 26 = .ok (.baload, 1) := by decide +kernel
theorem dX0_goesBefore_27 : decode cX0_goesBefore 27 = .ok (.if_icmp .ge 7, 3) := by decide +kernel
theorem dX0_goesBefore_30 : decode cX0_goesBefore 30 = .ok (.iconst 1, 1) := by decide +kernel
theorem dX0_goesBefore_31 : decode cX0_goesBefore 31 = .ok (.goto 4, 3) := by decide +kernel
theorem dX0_goesBefore_34 : decode cX0_goesBefore 34 = .ok (.iconst 0, 1) := by decide +kernel
theorem dX0_goesBefore_35 : decode cX0_goesBefore 35 = .ok (.ireturn, 1) := by decide +kernel
theorem dX0_goesBefore_36 : decode cX0_goesBefore 36 = .ok (.aload_n 0, 1) := by decide +kernel
theorem dX0_goesBefore_37 : decode cX0_goesBefore 37 = .ok (.iload_n 1, 1) := by decide +kernel
theorem dX0_goesBefore_38 : decode cX0_goesBefore 38 = .ok (.invokevirtual 86, 3) := by decide +kernel
theorem dX0_goesBefore_41 : decode cX0_goesBefore 41 = .ok (.istore_n 3, 1) := by decide +kernel
theorem dX0_goesBefore_42 : decode cX0_goesBefore 42 = .ok (.iload_n 3, 1) := by decide +kernel
theorem dX0_goesBefore_43 : decode cX0_goesBefore 43 = .ok (.aload_n 0, 1) := by decide +kernel
theorem dX0_goesBefore_44 : decode cX0_goesBefore 44 = .ok (.iload_n 2, 1) := by decide +kernel
theorem dX0_goesBefore_45 : decode cX0_goesBefore 45 = .ok (.invokevirtual 86, 3) := by decide +kernel
theorem dX0_goesBefore_48 : decode cX0_goesBefore 48 = .ok (.if_icmp .eq 5, 3) := by decide +kernel
theorem dX0_goesBefore_51 : decode cX0_goesBefore 51 = .ok (.iload_n 3, 1) := by decide +kernel
theorem dX0_goesBefore_52 : decode cX0_goesBefore 52 = .ok (.ireturn, 1) := by decide +kernel
theorem dX0_goesBefore_53 : decode cX0_goesBefore 53 = .ok (.aload_n 0, 1) := by decide +kernel
theorem dX0_goesBefore_54 : decode cX0_goesBefore 54 = .ok (.getfield 7, 3) := by decide +kernel
theorem dX0_goesBefore_57 : decode cX0_goesBefore 57 = .ok (.iload_n 1, 1) := by decide +kernel
theorem dX0_goesBefore_58 : decode cX0_goesBefore 58 = .ok (.baload, 1) := by decide +kernel
theorem dX0_goesBefore_59 : decode cX0_goesBefore 59 = .ok (.aload_n 0, 1) := by decide +kernel
theorem dX0_goesBefore_60 : decode cX0_goesBefore 60 = .ok (.getfield 7, 3) := by decide +kernel
theorem dX0_goesBefore_63 : decode cX0_goesBefore 63 = .ok (.iload_n 2, 1) := by decide +kernel
theorem dX0_goesBefore_64 : decode cX0_goesBefore 64 = .ok (.baload, 1) := by decide +kernel
theorem dX0_goesBefore_65 : decode cX0_goesBefore 65 = .ok (.if_icmp .eq 24, 3) := by decide +kernel
theorem dX0_goesBefore_68 : decode cX0_goesBefore 68 = .ok (.aload_n 0, 1) := by decide +kernel
theorem dX0_goesBefore_69 : decode cX0_goesBefore 69 = .ok (.getfield 7, 3) := by decide +kernel
theorem dX0_goesBefore_72 : decode cX0_goesBefore 72 = .ok (.iload_n 1, 1) := by decide +kernel
theorem dX0_goesBefore_73 : decode cX0_goesBefore 73 = .ok (.baload, 1) := by decide +kernel
theorem dX0_goesBefore_74 : decode cX0_goesBefore 74 = .ok (.aload_n 0, 1) := by decide +kernel
theorem dX0_goesBefore_75 : decode cX0_goesBefore 75 = .ok (.getfield 7, 3) := by decide +kernel
theorem dX0_goesBefore_78 : decode cX0_goesBefore 78 = .ok (.iload_n 2, 1) := by decide +kernel
theorem dX0_goesBefore_79 : decode cX0_goesBefore 79 = .ok (.baload, 1) := by decide +kernel
theorem dX0_goesBefore_80 : decode cX0_goesBefore 80 = .ok (.if_icmp .ge 7, 3) := by decide +kernel
theorem dX0_goesBefore_83 : decode cX0_goesBefore 83 = .ok (.iconst 1, 1) := by decide +kernel
theorem dX0_goesBefore_84 : decode cX0_goesBefore 84 = .ok (.goto 4, 3) := by decide +kernel
theorem dX0_goesBefore_87 : decode cX0_goesBefore 87 = .ok (.iconst 0, 1) := by decide +kernel
theorem dX0_goesBefore_88 : decode cX0_goesBefore 88 = .ok (.ireturn, 1) := by decide +kernel
theorem dX0_goesBefore_89 : decode cX0_goesBefore 89 = .ok (.aload_n 0, 1) := by decide +kernel
theorem dX0_goesBefore_90 : decode cX0_goesBefore 90 = .ok (.getfield 13, 3) := by decide +kernel
theorem dX0_goesBefore_93 : decode cX0_goesBefore 93 = .ok (.iload_n 1, 1) := by decide +kernel
theorem dX0_goesBefore_94 : decode cX0_goesBefore 94 = .ok (.baload, 1) := by decide +kernel
theorem dX0_goesBefore_95 : decode cX0_goesBefore 95 = .ok (.aload_n 0, 1) := by decide +kernel
theorem dX0_goesBefore_96 : decode cX0_goesBefore 96 = .ok (.getfield 13, 3) := by decide +kernel
theorem dX0_goesBefore_99 : decode cX0_goesBefore 99 = .ok (.iload_n 2, 1) := by decide +kernel
theorem dX0_goesBefore_100 : decode cX0_goesBefore 100 = .ok (.baload, 1) := by decide +kernel
theorem dX0_goesBefore_101 : decode cX0_goesBefore 101 = .ok (.if_icmp .eq 26, 3) := by decide +kernel
theorem dX0_goesBefore_104 : decode cX0_goesBefore 104 = .ok (.aload_n 0, 1) := by decide +kernel
theorem dX0_goesBefore_105 : decode cX0_goesBefore 105 = .ok (.getfield 13, 3) := by decide +kernel
theorem dX0_goesBefore_108 : decode cX0_goesBefore 108 = .ok (.iload_n 1, 1) := by decide +kernel
theorem dX0_goesBefore_109 : decode cX0_goesBefore 109 = .ok (.baload, 1) := by decide +kernel
theorem dX0_goesBefore_110 : decode cX0_goesBefore 110 = .ok (.aload_n 0, 1) := by decide +kernel
theorem dX0_goesBefore_111 : decode cX0_goesBefore 111 = .ok (.getfield 13, 3) := by decide +kernel
theorem dX0_goesBefore_114 : decode cX0_goesBefore 114 = .ok (.iload_n 2, 1) := by decide +kernel
theorem dX0_goesBefore_115 : decode cX0_goesBefore 115 = .ok (.baload, 1) := by decide +kernel
theorem dX0_goesBefore_116 : decode cX0_goesBefore 116 = .ok (.if_icmp .le 7, 3) := by decide +kernel
theorem dX0_goesBefore_119 : decode cX0_goesBefore 119 = .ok (.iconst 1, 1) := by decide +kernel
theorem dX0_goesBefore_120 : decode cX0_goesBefore 120 = .ok (.goto 17, 3) := by decide +kernel
theorem dX0_goesBefore_123 : decode cX0_goesBefore 123 = .ok (.iconst 0, 1) := by decide +kernel
theorem dX0_goesBefore_124 : decode cX0_goesBefore 124 = .ok (.goto 13, 3) := by decide +kernel
theorem dX0_goesBefore_127 : decode cX0_goesBefore 127 = .ok (.iload_n 1, 1) := by decide +kernel
theorem dX0_goesBefore_128 : decode cX0_goesBefore 128 = .ok (.iload_n 2, 1) := by decide +kernel
theorem dX0_goesBefore_129 : decode cX0_goesBefore 129 = .ok (.if_icmp .ge 7, 3) := by decide +kernel
theorem dX0_goesBefore_132 : decode cX0_goesBefore 132 = .ok (.iconst 1, 1) := by decide +kernel
theorem dX0_goesBefore_133 : decode cX0_goesBefore 133 = .ok (.goto 4, 3) := by decide +kernel
theorem dX0_goesBefore_136 : decode cX0_goesBefore 136 = .ok (.iconst 0, 1) := by decide +kernel
theorem dX0_goesBefore_137 : decode cX0_goesBefore 137 = .ok (.ireturn, 1) := by decide +kernel
abbrev cX0_isQuery : ByteArray := prog_1_method_20_code
def yX0_isQuery : MethodName := ⟨RX0, "isQuery", "(I)Z"⟩
theorem dX0_isQuery_0 : decode cX0_isQuery 0 = .ok (.aload_n 0, 1) := by decide +kernel
theorem dX0_isQuery_1 : decode cX0_isQuery 1 = .ok (.getfield 7, 3) := by decide +kernel
theorem dX0_isQuery_4 : decode cX0_isQuery 4 = .ok (.iload_n 1, 1) := by decide +kernel
theorem dX0_isQuery_5 : decode cX0_isQuery 5 = .ok (.baload, 1) := by decide +kernel
theorem dX0_isQuery_6 : decode cX0_isQuery 6 = .ok (.aload_n 0, 1) := by decide +kernel
theorem dX0_isQuery_7 : decode cX0_isQuery 7 = .ok (.getfield 43, 3) := by decide +kernel
theorem dX0_isQuery_10 : decode cX0_isQuery 10 = .ok (.if_icmp .eq 5, 3) := by decide +kernel
theorem dX0_isQuery_13 : decode cX0_isQuery 13 = .ok (.iconst 0, 1) := by decide +kernel
theorem dX0_isQuery_14 : decode cX0_isQuery 14 = .ok (.ireturn, 1) := by decide +kernel
theorem dX0_isQuery_15 : decode cX0_isQuery 15 = .ok (.iconst 0, 1) := by decide +kernel
theorem dX0_isQuery_16 : decode cX0_isQuery 16 = .ok (.istore_n 2, 1) := by decide +kernel
theorem dX0_isQuery_17 : decode cX0_isQuery 17 = .ok (.iload_n 2, 1) := by decide +kernel
theorem dX0_isQuery_18 : decode cX0_isQuery 18 = .ok (.aload_n 0, 1) := by decide +kernel
theorem dX0_isQuery_19 : decode cX0_isQuery 19 = .ok (.getfield 43, 3) := by decide +kernel
theorem dX0_isQuery_22 : decode cX0_isQuery 22 = .ok (.if_icmp .ge 31, 3) := by decide +kernel
theorem dX0_isQuery_25 : decode cX0_isQuery 25 = .ok (.aload_n 0, 1) := by decide +kernel
theorem dX0_isQuery_26 : decode cX0_isQuery 26 = .ok (.getfield 16, 3) := by decide +kernel
theorem dX0_isQuery_29 : decode cX0_isQuery 29 = .ok (.iload_n 1, 1) := by decide +kernel
theorem dX0_isQuery_30 : decode cX0_isQuery 30 = .ok (.bipush 6, 2) := by decide +kernel
theorem dX0_isQuery_32 : decode cX0_isQuery 32 = .ok (.imul, 1) := by decide +kernel
theorem dX0_isQuery_33 : decode cX0_isQuery 33 = .ok (.iload_n 2, 1) := by decide +kernel
theorem dX0_isQuery_34 : decode cX0_isQuery 34 = .ok (.iadd, 1) := by decide +kernel
theorem dX0_isQuery_35 : decode cX0_isQuery 35 = .ok (.baload, 1) := by decide +kernel
theorem dX0_isQuery_36 : decode cX0_isQuery 36 = .ok (.aload_n 0, 1) := by decide +kernel
theorem dX0_isQuery_37 : decode cX0_isQuery 37 = .ok (.getfield 19, 3) := by decide +kernel
theorem dX0_isQuery_40 : decode cX0_isQuery 40 = .ok (.iload_n 2, 1) := by decide +kernel
theorem dX0_isQuery_41 : decode cX0_isQuery 41 = .ok (.baload, 1) := by decide +kernel
theorem dX0_isQuery_42 : decode cX0_isQuery 42 = .ok (.if_icmp .eq 5, 3) := by decide +kernel
theorem dX0_isQuery_45 : decode cX0_isQuery 45 = .ok (.iconst 0, 1) := by decide +kernel
theorem dX0_isQuery_46 : decode cX0_isQuery 46 = .ok (.ireturn, 1) := by decide +kernel
theorem dX0_isQuery_47 : decode cX0_isQuery 47 = .ok (.iinc 2 1, 3) := by decide +kernel
theorem dX0_isQuery_50 : decode cX0_isQuery 50 = .ok (.goto (-33), 3) := by decide +kernel
theorem dX0_isQuery_53 : decode cX0_isQuery 53 = .ok (.iconst 1, 1) := by decide +kernel
theorem dX0_isQuery_54 : decode cX0_isQuery 54 = .ok (.ireturn, 1) := by decide +kernel
abbrev cX0_hints : ByteArray := prog_1_method_28_code
def yX0_hints : MethodName := ⟨RX0, "hints", "()I"⟩
theorem dX0_hints_0 : decode cX0_hints 0 = .ok (.iconst 0, 1) := by decide +kernel
theorem dX0_hints_1 : decode cX0_hints 1 = .ok (.istore_n 1, 1) := by decide +kernel
theorem dX0_hints_2 : decode cX0_hints 2 = .ok (.iconst 0, 1) := by decide +kernel
theorem dX0_hints_3 : decode cX0_hints 3 = .ok (.istore_n 2, 1) := by decide +kernel
theorem dX0_hints_4 : decode cX0_hints 4 = .ok (.iload_n 2, 1) := by decide +kernel
theorem dX0_hints_5 : decode cX0_hints 5 = .ok (.iconst 4, 1) := by decide +kernel
theorem dX0_hints_6 : decode cX0_hints 6 = .ok (.if_icmp .ge 43, 3) := by decide +kernel
theorem dX0_hints_9 : decode cX0_hints 9 = .ok (.aload_n 0, 1) := by decide +kernel
theorem dX0_hints_10 : decode cX0_hints 10 = .ok (.getfield 43, 3) := by decide +kernel
theorem dX0_hints_13 : decode cX0_hints 13 = .ok (.bipush 6, 2) := by decide +kernel
theorem dX0_hints_15 : decode cX0_hints 15 = .ok (.if_icmp .ge 34, 3) := by decide +kernel
theorem dX0_hints_18 : decode cX0_hints 18 = .ok (.aload_n 0, 1) := by decide +kernel
theorem dX0_hints_19 : decode cX0_hints 19 = .ok (.iload_n 2, 1) := by decide +kernel
theorem dX0_hints_20 : decode cX0_hints 20 = .ok (.invokevirtual 102, 3) := by decide +kernel
theorem dX0_hints_23 : decode cX0_hints 23 = .ok (.istore_n 3, 1) := by decide +kernel
theorem dX0_hints_24 : decode cX0_hints 24 = .ok (.aload_n 0, 1) := by decide +kernel
theorem dX0_hints_25 : decode cX0_hints 25 = .ok (.invokevirtual 105, 3) := by decide +kernel
theorem dX0_hints_28 : decode cX0_hints 28 = .ok (.pop, 1) := by decide +kernel
theorem dX0_hints_29 : decode cX0_hints 29 = .ok (.iload_n 1, 1) := by decide +kernel
theorem dX0_hints_30 : decode cX0_hints 30 = .ok (.iload_n 3, 1) := by decide +kernel
theorem dX0_hints_31 : decode cX0_hints 31 = .ok (.ifCond .le 9, 3) := by decide +kernel
theorem dX0_hints_34 : decode cX0_hints 34 = .ok (.iconst 1, 1) := by decide +kernel
theorem dX0_hints_35 : decode cX0_hints 35 = .ok (.iload_n 2, 1) := by decide +kernel
theorem dX0_hints_36 : decode cX0_hints 36 = .ok (.ishl, 1) := by decide +kernel
theorem dX0_hints_37 : decode cX0_hints 37 = .ok (.goto 4, 3) := by decide +kernel
theorem dX0_hints_40 : decode cX0_hints 40 = .ok (.iconst 0, 1) := by decide +kernel
theorem dX0_hints_41 : decode cX0_hints 41 = .ok (.ior, 1) := by decide +kernel
theorem dX0_hints_42 : decode cX0_hints 42 = .ok (.istore_n 1, 1) := by decide +kernel
theorem dX0_hints_43 : decode cX0_hints 43 = .ok (.iinc 2 1, 3) := by decide +kernel
theorem dX0_hints_46 : decode cX0_hints 46 = .ok (.goto (-42), 3) := by decide +kernel
theorem dX0_hints_49 : decode cX0_hints 49 = .ok (.iload_n 1, 1) := by decide +kernel
theorem dX0_hints_50 : decode cX0_hints 50 = .ok (.ireturn, 1) := by decide +kernel
abbrev cX0_common : ByteArray := prog_1_method_29_code
def yX0_common : MethodName := ⟨RX0, "common", "()I"⟩
theorem dX0_common_0 : decode cX0_common 0 = .ok (.aload_n 0, 1) := by decide +kernel
theorem dX0_common_1 : decode cX0_common 1 = .ok (.invokevirtual 89, 3) := by decide +kernel
theorem dX0_common_4 : decode cX0_common 4 = .ok (.iconst (-1), 1) := by decide +kernel
theorem dX0_common_5 : decode cX0_common 5 = .ok (.istore_n 1, 1) := by decide +kernel
theorem dX0_common_6 : decode cX0_common 6 = .ok (.iconst 0, 1) := by decide +kernel
theorem dX0_common_7 : decode cX0_common 7 = .ok (.istore_n 2, 1) := by decide +kernel
theorem dX0_common_8 : decode cX0_common 8 = .ok (.iconst 0, 1) := by decide +kernel
theorem dX0_common_9 : decode cX0_common 9 = .ok (.istore_n 3, 1) := by decide +kernel
theorem dX0_common_10 : decode cX0_common 10 = .ok (.iload_n 3, 1) := by decide +kernel
theorem dX0_common_11 : decode cX0_common 11 = .ok (.bipush 10, 2) := by decide +kernel
theorem dX0_common_13 : decode cX0_common 13 = .ok (.if_icmp .ge 49, 3) := by decide +kernel
theorem dX0_common_16 : decode cX0_common 16 = .ok (.aload_n 0, 1) := by decide +kernel
theorem dX0_common_17 : decode cX0_common 17 = .ok (.iload_n 3, 1) := by decide +kernel
theorem dX0_common_18 : decode cX0_common 18 = .ok (.invokevirtual 92, 3) := by decide +kernel
theorem dX0_common_21 : decode cX0_common 21 = .ok (.ifCond .eq 19, 3) := by decide +kernel
theorem dX0_common_24 : decode cX0_common 24 = .ok (.iload_n 1, 1) := by decide +kernel
theorem dX0_common_25 : decode cX0_common 25 = .ok (.ifCond .ge 15, 3) := by decide +kernel
theorem dX0_common_28 : decode cX0_common 28 = .ok (.iload_n 3, 1) := by decide +kernel
theorem dX0_common_29 : decode cX0_common 29 = .ok (.istore_n 1, 1) := by decide +kernel
theorem dX0_common_30 : decode cX0_common 30 = .ok (.aload_n 0, 1) := by decide +kernel
theorem dX0_common_31 : decode cX0_common 31 = .ok (.getfield 7, 3) := by decide +kernel
theorem dX0_common_34 : decode cX0_common 34 = .ok (.iload_n 3, 1) := by decide +kernel
theorem dX0_common_35 : decode cX0_common 35 = .ok (.baload, 1) := by decide +kernel
theorem dX0_common_36 : decode cX0_common 36 = .ok (.istore_n 2, 1) := by decide +kernel
theorem dX0_common_37 : decode cX0_common 37 = .ok (.goto 19, 3) := by decide +kernel
theorem dX0_common_40 : decode cX0_common 40 = .ok (.aload_n 0, 1) := by decide +kernel
theorem dX0_common_41 : decode cX0_common 41 = .ok (.iload_n 3, 1) := by decide +kernel
theorem dX0_common_42 : decode cX0_common 42 = .ok (.invokevirtual 92, 3) := by decide +kernel
theorem dX0_common_45 : decode cX0_common 45 = .ok (.ifCond .eq 11, 3) := by decide +kernel
theorem dX0_common_48 : decode cX0_common 48 = .ok (.aload_n 0, 1) := by decide +kernel
theorem dX0_common_49 : decode cX0_common 49 = .ok (.iload_n 1, 1) := by decide +kernel
theorem dX0_common_50 : decode cX0_common 50 = .ok (.iload_n 3, 1) := by decide +kernel
theorem dX0_common_51 : decode cX0_common 51 = .ok (.iload_n 2, 1) := by decide +kernel
theorem dX0_common_52 : decode cX0_common 52 = .ok (.invokevirtual 108, 3) := by decide +kernel
theorem dX0_common_55 : decode cX0_common 55 = .ok (.istore_n 2, 1) := by decide +kernel
theorem dX0_common_56 : decode cX0_common 56 = .ok (.iinc 3 1, 3) := by decide +kernel
theorem dX0_common_59 : decode cX0_common 59 = .ok (.goto (-49), 3) := by decide +kernel
theorem dX0_common_62 : decode cX0_common 62 = .ok (.iload_n 2, 1) := by decide +kernel
theorem dX0_common_63 : decode cX0_common 63 = .ok (.ireturn, 1) := by decide +kernel
abbrev cX0_shared : ByteArray := prog_1_method_30_code
def yX0_shared : MethodName := ⟨RX0, "shared", "(III)I"⟩
theorem dX0_shared_0 : decode cX0_shared 0 = .ok (.iconst 0, 1) := by decide +kernel
theorem dX0_shared_1 : decode cX0_shared 1 = .ok (.istore 4, 2) := by decide +kernel
theorem dX0_shared_3 : decode cX0_shared 3 = .ok (.iload 4, 2) := by decide +kernel
theorem dX0_shared_5 : decode cX0_shared 5 = .ok (.iload_n 3, 1) := by decide +kernel
theorem dX0_shared_6 : decode cX0_shared 6 = .ok (.if_icmp .ge 47, 3) := by decide +kernel
theorem dX0_shared_9 : decode cX0_shared 9 = .ok (.iload 4, 2) := by decide +kernel
theorem dX0_shared_11 : decode cX0_shared 11 = .ok (.aload_n 0, 1) := by decide +kernel
theorem dX0_shared_12 : decode cX0_shared 12 = .ok (.getfield 7, 3) := by decide +kernel
theorem dX0_shared_15 : decode cX0_shared 15 = .ok (.iload_n 2, 1) := by decide +kernel
theorem dX0_shared_16 : decode cX0_shared 16 = .ok (.baload, 1) := by decide +kernel
theorem dX0_shared_17 : decode cX0_shared 17 = .ok (.if_icmp .ge 36, 3) := by decide +kernel
theorem dX0_shared_20 : decode cX0_shared 20 = .ok (.aload_n 0, 1) := by decide +kernel
theorem dX0_shared_21 : decode cX0_shared 21 = .ok (.getfield 16, 3) := by decide +kernel
theorem dX0_shared_24 : decode cX0_shared 24 = .ok (.iload_n 1, 1) := by decide +kernel
theorem dX0_shared_25 : decode cX0_shared 25 = .ok (.bipush 6, 2) := by decide +kernel
theorem dX0_shared_27 : decode cX0_shared 27 = .ok (.imul, 1) := by decide +kernel
theorem dX0_shared_28 : decode cX0_shared 28 = .ok (.iload 4, 2) := by decide +kernel
theorem dX0_shared_30 : decode cX0_shared 30 = .ok (.iadd, 1) := by decide +kernel
theorem dX0_shared_31 : decode cX0_shared 31 = .ok (.baload, 1) := by decide +kernel
theorem dX0_shared_32 : decode cX0_shared 32 = .ok (.aload_n 0, 1) := by decide +kernel
theorem dX0_shared_33 : decode cX0_shared 33 = .ok (.getfield 16, 3) := by decide +kernel
theorem dX0_shared_36 : decode cX0_shared 36 = .ok (.iload_n 2, 1) := by decide +kernel
theorem dX0_shared_37 : decode cX0_shared 37 = .ok (.bipush 6, 2) := by decide +kernel
theorem dX0_shared_39 : decode cX0_shared 39 = .ok (.imul, 1) := by decide +kernel
theorem dX0_shared_40 : decode cX0_shared 40 = .ok (.iload 4, 2) := by decide +kernel
theorem dX0_shared_42 : decode cX0_shared 42 = .ok (.iadd, 1) := by decide +kernel
theorem dX0_shared_43 : decode cX0_shared 43 = .ok (.baload, 1) := by decide +kernel
theorem dX0_shared_44 : decode cX0_shared 44 = .ok (.if_icmp .ne 9, 3) := by decide +kernel
theorem dX0_shared_47 : decode cX0_shared 47 = .ok (.iinc 4 1, 3) := by decide +kernel
theorem dX0_shared_50 : decode cX0_shared 50 = .ok (.goto (-47), 3) := by decide +kernel
theorem dX0_shared_53 : decode cX0_shared 53 = .ok (.iload 4, 2) := by decide +kernel
theorem dX0_shared_55 : decode cX0_shared 55 = .ok (.ireturn, 1) := by decide +kernel
end
section
set_option maxRecDepth 100000
theorem q24 : (Jvm.Cond.initialized "TypoSearch") ∈ lw_all := lw_g (lw_at lw_m1 1 rfl) rfl
theorem q27 : (Jvm.Cond.instantiable "TypoSearch" (13 : Nat)) ∈ lw_all := lw_g (lw_at lw_m1 4 rfl) rfl
theorem q29 : (Jvm.Cond.instanceMethod ({ cls := "TypoSearch", name := "<init>", desc := "()V" } : Jvm.MethodName)) ∈ lw_all := lw_g (lw_at lw_m1 6 rfl) rfl
theorem q30 : (Jvm.Cond.code ({ cls := "TypoSearch", name := "<init>", desc := "()V" } : Jvm.MethodName) prog_1_method_1_code (1 : Nat) (Option.none : Option Jvm.ClassFile.FieldType)) ∈ lw_all := lw_g (lw_at lw_m1 7 rfl) rfl
theorem q31 : (Jvm.Cond.methodLink "TypoSearch" (1 : Nat) ({ cls := "java/lang/Object", name := "<init>", desc := "()V" } : Jvm.MethodName)) ∈ lw_all := lw_g (lw_at lw_m1 8 rfl) rfl
theorem q34 : (Jvm.Cond.fieldLink "TypoSearch" (28 : Nat) "TypoSearch" "present" "I") ∈ lw_all := lw_g (lw_at lw_m1 11 rfl) rfl
theorem q35 : (Jvm.Cond.fieldLink "TypoSearch" (7 : Nat) "TypoSearch" "lengths" "[B") ∈ lw_all := lw_g (lw_at lw_m1 12 rfl) rfl
theorem q36 : (Jvm.Cond.fieldLink "TypoSearch" (13 : Nat) "TypoSearch" "weights" "[B") ∈ lw_all := lw_g (lw_at lw_m1 13 rfl) rfl
theorem q37 : (Jvm.Cond.fieldLink "TypoSearch" (16 : Nat) "TypoSearch" "symbols" "[B") ∈ lw_all := lw_g (lw_at lw_m1 14 rfl) rfl
theorem q38 : (Jvm.Cond.fieldLink "TypoSearch" (19 : Nat) "TypoSearch" "query" "[B") ∈ lw_all := lw_g (lw_at lw_m1 15 rfl) rfl
theorem q39 : (Jvm.Cond.fieldLink "TypoSearch" (43 : Nat) "TypoSearch" "size" "I") ∈ lw_all := lw_g (lw_at lw_m1 16 rfl) rfl
theorem q40 : (Jvm.Cond.fieldLink "TypoSearch" (22 : Nat) "TypoSearch" "having" "[B") ∈ lw_all := lw_g (lw_at lw_m1 17 rfl) rfl
theorem q41 : (Jvm.Cond.fieldLink "TypoSearch" (50 : Nat) "TypoSearch" "none" "I") ∈ lw_all := lw_g (lw_at lw_m1 18 rfl) rfl
theorem q42 : (Jvm.Cond.fieldLink "TypoSearch" (53 : Nat) "TypoSearch" "one" "I") ∈ lw_all := lw_g (lw_at lw_m1 19 rfl) rfl
theorem q43 : (Jvm.Cond.fieldLink "TypoSearch" (56 : Nat) "TypoSearch" "two" "I") ∈ lw_all := lw_g (lw_at lw_m1 20 rfl) rfl
theorem q44 : (Jvm.Cond.fieldLink "TypoSearch" (39 : Nat) "TypoSearch" "known" "Z") ∈ lw_all := lw_g (lw_at lw_m1 21 rfl) rfl
theorem q45 : (Jvm.Cond.fieldLink "TypoSearch" (25 : Nat) "TypoSearch" "typoCount" "[B") ∈ lw_all := lw_g (lw_at lw_m1 22 rfl) rfl
theorem q46 : (Jvm.Cond.fieldLink "TypoSearch" (76 : Nat) "TypoSearch" "foundSet" "I") ∈ lw_all := lw_g (lw_at lw_m1 23 rfl) rfl
theorem q47 : (Jvm.Cond.lays "TypoSearch" "TypoSearch" "present" "I") ∈ lw_all := lw_g (lw_at lw_m1 24 rfl) rfl
theorem q48 : (Jvm.Cond.soleField "TypoSearch" "present") ∈ lw_all := lw_g (lw_at lw_m1 25 rfl) rfl
theorem q49 : (Jvm.Cond.laysFinal "TypoSearch" "TypoSearch" "lengths" "[B") ∈ lw_all := lw_g (lw_at lw_m1 26 rfl) rfl
theorem q50 : (Jvm.Cond.soleField "TypoSearch" "lengths") ∈ lw_all := lw_g (lw_at lw_m1 27 rfl) rfl
theorem q51 : (Jvm.Cond.laysFinal "TypoSearch" "TypoSearch" "weights" "[B") ∈ lw_all := lw_g (lw_at lw_m1 28 rfl) rfl
theorem q52 : (Jvm.Cond.soleField "TypoSearch" "weights") ∈ lw_all := lw_g (lw_at lw_m1 29 rfl) rfl
theorem q53 : (Jvm.Cond.laysFinal "TypoSearch" "TypoSearch" "symbols" "[B") ∈ lw_all := lw_g (lw_at lw_m1 30 rfl) rfl
theorem q54 : (Jvm.Cond.soleField "TypoSearch" "symbols") ∈ lw_all := lw_g (lw_at lw_m1 31 rfl) rfl
theorem q55 : (Jvm.Cond.laysFinal "TypoSearch" "TypoSearch" "query" "[B") ∈ lw_all := lw_g (lw_at lw_m1 32 rfl) rfl
theorem q56 : (Jvm.Cond.soleField "TypoSearch" "query") ∈ lw_all := lw_g (lw_at lw_m1 33 rfl) rfl
theorem q57 : (Jvm.Cond.lays "TypoSearch" "TypoSearch" "size" "I") ∈ lw_all := lw_g (lw_at lw_m1 34 rfl) rfl
theorem q58 : (Jvm.Cond.soleField "TypoSearch" "size") ∈ lw_all := lw_g (lw_at lw_m1 35 rfl) rfl
theorem q59 : (Jvm.Cond.laysFinal "TypoSearch" "TypoSearch" "having" "[B") ∈ lw_all := lw_g (lw_at lw_m1 36 rfl) rfl
theorem q60 : (Jvm.Cond.soleField "TypoSearch" "having") ∈ lw_all := lw_g (lw_at lw_m1 37 rfl) rfl
theorem q61 : (Jvm.Cond.lays "TypoSearch" "TypoSearch" "none" "I") ∈ lw_all := lw_g (lw_at lw_m1 38 rfl) rfl
theorem q62 : (Jvm.Cond.soleField "TypoSearch" "none") ∈ lw_all := lw_g (lw_at lw_m1 39 rfl) rfl
theorem q63 : (Jvm.Cond.lays "TypoSearch" "TypoSearch" "one" "I") ∈ lw_all := lw_g (lw_at lw_m1 40 rfl) rfl
theorem q64 : (Jvm.Cond.soleField "TypoSearch" "one") ∈ lw_all := lw_g (lw_at lw_m1 41 rfl) rfl
theorem q65 : (Jvm.Cond.lays "TypoSearch" "TypoSearch" "two" "I") ∈ lw_all := lw_g (lw_at lw_m1 42 rfl) rfl
theorem q66 : (Jvm.Cond.soleField "TypoSearch" "two") ∈ lw_all := lw_g (lw_at lw_m1 43 rfl) rfl
theorem q67 : (Jvm.Cond.lays "TypoSearch" "TypoSearch" "known" "Z") ∈ lw_all := lw_g (lw_at lw_m1 44 rfl) rfl
theorem q68 : (Jvm.Cond.soleField "TypoSearch" "known") ∈ lw_all := lw_g (lw_at lw_m1 45 rfl) rfl
theorem q69 : (Jvm.Cond.laysFinal "TypoSearch" "TypoSearch" "typoCount" "[B") ∈ lw_all := lw_g (lw_at lw_m1 46 rfl) rfl
theorem q70 : (Jvm.Cond.soleField "TypoSearch" "typoCount") ∈ lw_all := lw_g (lw_at lw_m1 47 rfl) rfl
theorem q71 : (Jvm.Cond.lays "TypoSearch" "TypoSearch" "foundSet" "I") ∈ lw_all := lw_g (lw_at lw_m1 48 rfl) rfl
theorem q72 : (Jvm.Cond.soleField "TypoSearch" "foundSet") ∈ lw_all := lw_g (lw_at lw_m1 49 rfl) rfl
theorem q73 : (Jvm.Cond.superclass "TypoSearch" "java/lang/Object") ∈ lw_all := lw_g (lw_at lw_m1 50 rfl) rfl
theorem q76 : (Jvm.Cond.instanceMethod ({ cls := "TypoSearch", name := "begin", desc := "(II)I" } : Jvm.MethodName)) ∈ lw_all := lw_g (lw_at lw_m1 53 rfl) rfl
theorem q77 : (Jvm.Cond.selects "TypoSearch" ({ cls := "TypoSearch", name := "begin", desc := "(II)I" } : Jvm.MethodName) ({ cls := "TypoSearch", name := "begin", desc := "(II)I" } : Jvm.MethodName)) ∈ lw_all := lw_g (lw_at lw_m1 54 rfl) rfl
theorem q78 : (Jvm.Cond.code ({ cls := "TypoSearch", name := "begin", desc := "(II)I" } : Jvm.MethodName) prog_1_method_4_code (4 : Nat) (Option.some Jvm.ClassFile.FieldType.int)) ∈ lw_all := lw_g (lw_at lw_m1 55 rfl) rfl
theorem q79 : (Jvm.Cond.methodLink "TypoSearch" (32 : Nat) ({ cls := "TypoSearch", name := "isSymbol", desc := "(I)Z" } : Jvm.MethodName)) ∈ lw_all := lw_g (lw_at lw_m1 56 rfl) rfl
theorem q80 : (Jvm.Cond.static ({ cls := "TypoSearch", name := "isSymbol", desc := "(I)Z" } : Jvm.MethodName)) ∈ lw_all := lw_g (lw_at lw_m1 57 rfl) rfl
theorem q81 : (Jvm.Cond.code ({ cls := "TypoSearch", name := "isSymbol", desc := "(I)Z" } : Jvm.MethodName) prog_1_method_3_code (1 : Nat) (Option.some Jvm.ClassFile.FieldType.boolean)) ∈ lw_all := lw_g (lw_at lw_m1 58 rfl) rfl
theorem q82 : (Jvm.Cond.methodLink "TypoSearch" (36 : Nat) ({ cls := "TypoSearch", name := "has", desc := "(I)Z" } : Jvm.MethodName)) ∈ lw_all := lw_g (lw_at lw_m1 59 rfl) rfl
theorem q83 : (Jvm.Cond.privateMethod ({ cls := "TypoSearch", name := "has", desc := "(I)Z" } : Jvm.MethodName)) ∈ lw_tbl := lw_at lw_m1 60 rfl
theorem q84 : (Jvm.Cond.instanceMethod ({ cls := "TypoSearch", name := "has", desc := "(I)Z" } : Jvm.MethodName)) ∈ lw_all := lw_g (lw_at lw_m1 61 rfl) rfl
theorem q85 : (Jvm.Cond.code ({ cls := "TypoSearch", name := "has", desc := "(I)Z" } : Jvm.MethodName) prog_1_method_2_code (2 : Nat) (Option.some Jvm.ClassFile.FieldType.boolean)) ∈ lw_all := lw_g (lw_at lw_m1 62 rfl) rfl
theorem q87 : (Jvm.Cond.instanceMethod ({ cls := "TypoSearch", name := "extend", desc := "(II)Z" } : Jvm.MethodName)) ∈ lw_all := lw_g (lw_at lw_m1 64 rfl) rfl
theorem q88 : (Jvm.Cond.selects "TypoSearch" ({ cls := "TypoSearch", name := "extend", desc := "(II)Z" } : Jvm.MethodName) ({ cls := "TypoSearch", name := "extend", desc := "(II)Z" } : Jvm.MethodName)) ∈ lw_all := lw_g (lw_at lw_m1 65 rfl) rfl
theorem q89 : (Jvm.Cond.code ({ cls := "TypoSearch", name := "extend", desc := "(II)Z" } : Jvm.MethodName) prog_1_method_5_code (3 : Nat) (Option.some Jvm.ClassFile.FieldType.boolean)) ∈ lw_all := lw_g (lw_at lw_m1 66 rfl) rfl
theorem q91 : (Jvm.Cond.instanceMethod ({ cls := "TypoSearch", name := "remove", desc := "(I)Z" } : Jvm.MethodName)) ∈ lw_all := lw_g (lw_at lw_m1 68 rfl) rfl
theorem q92 : (Jvm.Cond.selects "TypoSearch" ({ cls := "TypoSearch", name := "remove", desc := "(I)Z" } : Jvm.MethodName) ({ cls := "TypoSearch", name := "remove", desc := "(I)Z" } : Jvm.MethodName)) ∈ lw_all := lw_g (lw_at lw_m1 69 rfl) rfl
theorem q93 : (Jvm.Cond.code ({ cls := "TypoSearch", name := "remove", desc := "(I)Z" } : Jvm.MethodName) prog_1_method_6_code (2 : Nat) (Option.some Jvm.ClassFile.FieldType.boolean)) ∈ lw_all := lw_g (lw_at lw_m1 70 rfl) rfl
theorem q95 : (Jvm.Cond.instanceMethod ({ cls := "TypoSearch", name := "weigh", desc := "(II)Z" } : Jvm.MethodName)) ∈ lw_all := lw_g (lw_at lw_m1 72 rfl) rfl
theorem q96 : (Jvm.Cond.selects "TypoSearch" ({ cls := "TypoSearch", name := "weigh", desc := "(II)Z" } : Jvm.MethodName) ({ cls := "TypoSearch", name := "weigh", desc := "(II)Z" } : Jvm.MethodName)) ∈ lw_all := lw_g (lw_at lw_m1 73 rfl) rfl
theorem q97 : (Jvm.Cond.code ({ cls := "TypoSearch", name := "weigh", desc := "(II)Z" } : Jvm.MethodName) prog_1_method_7_code (3 : Nat) (Option.some Jvm.ClassFile.FieldType.boolean)) ∈ lw_all := lw_g (lw_at lw_m1 74 rfl) rfl
theorem q99 : (Jvm.Cond.instanceMethod ({ cls := "TypoSearch", name := "words", desc := "()I" } : Jvm.MethodName)) ∈ lw_all := lw_g (lw_at lw_m1 76 rfl) rfl
theorem q100 : (Jvm.Cond.selects "TypoSearch" ({ cls := "TypoSearch", name := "words", desc := "()I" } : Jvm.MethodName) ({ cls := "TypoSearch", name := "words", desc := "()I" } : Jvm.MethodName)) ∈ lw_all := lw_g (lw_at lw_m1 77 rfl) rfl
theorem q101 : (Jvm.Cond.code ({ cls := "TypoSearch", name := "words", desc := "()I" } : Jvm.MethodName) prog_1_method_8_code (1 : Nat) (Option.some Jvm.ClassFile.FieldType.int)) ∈ lw_all := lw_g (lw_at lw_m1 78 rfl) rfl
theorem q103 : (Jvm.Cond.instanceMethod ({ cls := "TypoSearch", name := "type", desc := "(I)I" } : Jvm.MethodName)) ∈ lw_all := lw_g (lw_at lw_m1 80 rfl) rfl
theorem q104 : (Jvm.Cond.selects "TypoSearch" ({ cls := "TypoSearch", name := "type", desc := "(I)I" } : Jvm.MethodName) ({ cls := "TypoSearch", name := "type", desc := "(I)I" } : Jvm.MethodName)) ∈ lw_all := lw_g (lw_at lw_m1 81 rfl) rfl
theorem q105 : (Jvm.Cond.code ({ cls := "TypoSearch", name := "type", desc := "(I)I" } : Jvm.MethodName) prog_1_method_9_code (2 : Nat) (Option.some Jvm.ClassFile.FieldType.int)) ∈ lw_all := lw_g (lw_at lw_m1 82 rfl) rfl
theorem q106 : (Jvm.Cond.methodLink "TypoSearch" (46 : Nat) ({ cls := "TypoSearch", name := "foundCount", desc := "()I" } : Jvm.MethodName)) ∈ lw_all := lw_g (lw_at lw_m1 83 rfl) rfl
theorem q107 : (Jvm.Cond.privateMethod ({ cls := "TypoSearch", name := "foundCount", desc := "()I" } : Jvm.MethodName)) ∈ lw_tbl := lw_at lw_m1 84 rfl
theorem q108 : (Jvm.Cond.instanceMethod ({ cls := "TypoSearch", name := "foundCount", desc := "()I" } : Jvm.MethodName)) ∈ lw_all := lw_g (lw_at lw_m1 85 rfl) rfl
theorem q109 : (Jvm.Cond.code ({ cls := "TypoSearch", name := "foundCount", desc := "()I" } : Jvm.MethodName) prog_1_method_23_code (3 : Nat) (Option.some Jvm.ClassFile.FieldType.int)) ∈ lw_all := lw_g (lw_at lw_m1 86 rfl) rfl
theorem q110 : (Jvm.Cond.methodLink "TypoSearch" (89 : Nat) ({ cls := "TypoSearch", name := "learn", desc := "()V" } : Jvm.MethodName)) ∈ lw_all := lw_g (lw_at lw_m1 87 rfl) rfl
theorem q111 : (Jvm.Cond.privateMethod ({ cls := "TypoSearch", name := "learn", desc := "()V" } : Jvm.MethodName)) ∈ lw_tbl := lw_at lw_m1 88 rfl
theorem q112 : (Jvm.Cond.instanceMethod ({ cls := "TypoSearch", name := "learn", desc := "()V" } : Jvm.MethodName)) ∈ lw_all := lw_g (lw_at lw_m1 89 rfl) rfl
theorem q113 : (Jvm.Cond.code ({ cls := "TypoSearch", name := "learn", desc := "()V" } : Jvm.MethodName) prog_1_method_19_code (2 : Nat) (Option.none : Option Jvm.ClassFile.FieldType)) ∈ lw_all := lw_g (lw_at lw_m1 90 rfl) rfl
theorem q114 : (Jvm.Cond.methodLink "TypoSearch" (79 : Nat) ({ cls := "TypoSearch", name := "typosOf", desc := "(I)I" } : Jvm.MethodName)) ∈ lw_all := lw_g (lw_at lw_m1 91 rfl) rfl
theorem q115 : (Jvm.Cond.privateMethod ({ cls := "TypoSearch", name := "typosOf", desc := "(I)I" } : Jvm.MethodName)) ∈ lw_tbl := lw_at lw_m1 92 rfl
theorem q116 : (Jvm.Cond.instanceMethod ({ cls := "TypoSearch", name := "typosOf", desc := "(I)I" } : Jvm.MethodName)) ∈ lw_all := lw_g (lw_at lw_m1 93 rfl) rfl
theorem q117 : (Jvm.Cond.code ({ cls := "TypoSearch", name := "typosOf", desc := "(I)I" } : Jvm.MethodName) prog_1_method_18_code (5 : Nat) (Option.some Jvm.ClassFile.FieldType.int)) ∈ lw_all := lw_g (lw_at lw_m1 94 rfl) rfl
theorem q118 : (Jvm.Cond.methodLink "TypoSearch" (66 : Nat) ({ cls := "TypoSearch", name := "setOut", desc := "()V" } : Jvm.MethodName)) ∈ lw_all := lw_g (lw_at lw_m1 95 rfl) rfl
theorem q119 : (Jvm.Cond.privateMethod ({ cls := "TypoSearch", name := "setOut", desc := "()V" } : Jvm.MethodName)) ∈ lw_tbl := lw_at lw_m1 96 rfl
theorem q120 : (Jvm.Cond.instanceMethod ({ cls := "TypoSearch", name := "setOut", desc := "()V" } : Jvm.MethodName)) ∈ lw_all := lw_g (lw_at lw_m1 97 rfl) rfl
theorem q121 : (Jvm.Cond.code ({ cls := "TypoSearch", name := "setOut", desc := "()V" } : Jvm.MethodName) prog_1_method_13_code (3 : Nat) (Option.none : Option Jvm.ClassFile.FieldType)) ∈ lw_all := lw_g (lw_at lw_m1 98 rfl) rfl
theorem q122 : (Jvm.Cond.methodLink "TypoSearch" (59 : Nat) ({ cls := "TypoSearch", name := "leaveOut", desc := "()V" } : Jvm.MethodName)) ∈ lw_all := lw_g (lw_at lw_m1 99 rfl) rfl
theorem q123 : (Jvm.Cond.privateMethod ({ cls := "TypoSearch", name := "leaveOut", desc := "()V" } : Jvm.MethodName)) ∈ lw_tbl := lw_at lw_m1 100 rfl
theorem q124 : (Jvm.Cond.instanceMethod ({ cls := "TypoSearch", name := "leaveOut", desc := "()V" } : Jvm.MethodName)) ∈ lw_all := lw_g (lw_at lw_m1 101 rfl) rfl
theorem q125 : (Jvm.Cond.code ({ cls := "TypoSearch", name := "leaveOut", desc := "()V" } : Jvm.MethodName) prog_1_method_15_code (1 : Nat) (Option.none : Option Jvm.ClassFile.FieldType)) ∈ lw_all := lw_g (lw_at lw_m1 102 rfl) rfl
theorem q126 : (Jvm.Cond.methodLink "TypoSearch" (62 : Nat) ({ cls := "TypoSearch", name := "movable", desc := "(IZ)I" } : Jvm.MethodName)) ∈ lw_all := lw_g (lw_at lw_m1 103 rfl) rfl
theorem q127 : (Jvm.Cond.privateMethod ({ cls := "TypoSearch", name := "movable", desc := "(IZ)I" } : Jvm.MethodName)) ∈ lw_tbl := lw_at lw_m1 104 rfl
theorem q128 : (Jvm.Cond.instanceMethod ({ cls := "TypoSearch", name := "movable", desc := "(IZ)I" } : Jvm.MethodName)) ∈ lw_all := lw_g (lw_at lw_m1 105 rfl) rfl
theorem q129 : (Jvm.Cond.code ({ cls := "TypoSearch", name := "movable", desc := "(IZ)I" } : Jvm.MethodName) prog_1_method_14_code (4 : Nat) (Option.some Jvm.ClassFile.FieldType.int)) ∈ lw_all := lw_g (lw_at lw_m1 106 rfl) rfl
theorem q130 : (Jvm.Cond.methodLink "TypoSearch" (69 : Nat) ({ cls := "TypoSearch", name := "reached", desc := "()I" } : Jvm.MethodName)) ∈ lw_all := lw_g (lw_at lw_m1 107 rfl) rfl
theorem q131 : (Jvm.Cond.privateMethod ({ cls := "TypoSearch", name := "reached", desc := "()I" } : Jvm.MethodName)) ∈ lw_tbl := lw_at lw_m1 108 rfl
theorem q132 : (Jvm.Cond.instanceMethod ({ cls := "TypoSearch", name := "reached", desc := "()I" } : Jvm.MethodName)) ∈ lw_all := lw_g (lw_at lw_m1 109 rfl) rfl
theorem q133 : (Jvm.Cond.code ({ cls := "TypoSearch", name := "reached", desc := "()I" } : Jvm.MethodName) prog_1_method_17_code (2 : Nat) (Option.some Jvm.ClassFile.FieldType.int)) ∈ lw_all := lw_g (lw_at lw_m1 110 rfl) rfl
theorem q134 : (Jvm.Cond.methodLink "TypoSearch" (72 : Nat) ({ cls := "TypoSearch", name := "advance", desc := "(I)V" } : Jvm.MethodName)) ∈ lw_all := lw_g (lw_at lw_m1 111 rfl) rfl
theorem q135 : (Jvm.Cond.privateMethod ({ cls := "TypoSearch", name := "advance", desc := "(I)V" } : Jvm.MethodName)) ∈ lw_tbl := lw_at lw_m1 112 rfl
theorem q136 : (Jvm.Cond.instanceMethod ({ cls := "TypoSearch", name := "advance", desc := "(I)V" } : Jvm.MethodName)) ∈ lw_all := lw_g (lw_at lw_m1 113 rfl) rfl
theorem q137 : (Jvm.Cond.code ({ cls := "TypoSearch", name := "advance", desc := "(I)V" } : Jvm.MethodName) prog_1_method_16_code (5 : Nat) (Option.none : Option Jvm.ClassFile.FieldType)) ∈ lw_all := lw_g (lw_at lw_m1 114 rfl) rfl
theorem q138 : (Jvm.Cond.methodLink "TypoSearch" (83 : Nat) ({ cls := "TypoSearch", name := "forgiven", desc := "()I" } : Jvm.MethodName)) ∈ lw_all := lw_g (lw_at lw_m1 115 rfl) rfl
theorem q139 : (Jvm.Cond.privateMethod ({ cls := "TypoSearch", name := "forgiven", desc := "()I" } : Jvm.MethodName)) ∈ lw_tbl := lw_at lw_m1 116 rfl
theorem q140 : (Jvm.Cond.instanceMethod ({ cls := "TypoSearch", name := "forgiven", desc := "()I" } : Jvm.MethodName)) ∈ lw_all := lw_g (lw_at lw_m1 117 rfl) rfl
theorem q141 : (Jvm.Cond.code ({ cls := "TypoSearch", name := "forgiven", desc := "()I" } : Jvm.MethodName) prog_1_method_12_code (1 : Nat) (Option.some Jvm.ClassFile.FieldType.int)) ∈ lw_all := lw_g (lw_at lw_m1 118 rfl) rfl
theorem q142 : (Jvm.Cond.methodLink "TypoSearch" (92 : Nat) ({ cls := "TypoSearch", name := "isFound", desc := "(I)Z" } : Jvm.MethodName)) ∈ lw_all := lw_g (lw_at lw_m1 119 rfl) rfl
theorem q143 : (Jvm.Cond.privateMethod ({ cls := "TypoSearch", name := "isFound", desc := "(I)Z" } : Jvm.MethodName)) ∈ lw_tbl := lw_at lw_m1 120 rfl
theorem q144 : (Jvm.Cond.instanceMethod ({ cls := "TypoSearch", name := "isFound", desc := "(I)Z" } : Jvm.MethodName)) ∈ lw_all := lw_g (lw_at lw_m1 121 rfl) rfl
theorem q145 : (Jvm.Cond.code ({ cls := "TypoSearch", name := "isFound", desc := "(I)Z" } : Jvm.MethodName) prog_1_method_22_code (2 : Nat) (Option.some Jvm.ClassFile.FieldType.boolean)) ∈ lw_all := lw_g (lw_at lw_m1 122 rfl) rfl
theorem q147 : (Jvm.Cond.instanceMethod ({ cls := "TypoSearch", name := "rub", desc := "()I" } : Jvm.MethodName)) ∈ lw_all := lw_g (lw_at lw_m1 124 rfl) rfl
theorem q148 : (Jvm.Cond.selects "TypoSearch" ({ cls := "TypoSearch", name := "rub", desc := "()I" } : Jvm.MethodName) ({ cls := "TypoSearch", name := "rub", desc := "()I" } : Jvm.MethodName)) ∈ lw_all := lw_g (lw_at lw_m1 125 rfl) rfl
theorem q149 : (Jvm.Cond.code ({ cls := "TypoSearch", name := "rub", desc := "()I" } : Jvm.MethodName) prog_1_method_10_code (1 : Nat) (Option.some Jvm.ClassFile.FieldType.int)) ∈ lw_all := lw_g (lw_at lw_m1 126 rfl) rfl
theorem q151 : (Jvm.Cond.instanceMethod ({ cls := "TypoSearch", name := "typed", desc := "()I" } : Jvm.MethodName)) ∈ lw_all := lw_g (lw_at lw_m1 128 rfl) rfl
theorem q152 : (Jvm.Cond.selects "TypoSearch" ({ cls := "TypoSearch", name := "typed", desc := "()I" } : Jvm.MethodName) ({ cls := "TypoSearch", name := "typed", desc := "()I" } : Jvm.MethodName)) ∈ lw_all := lw_g (lw_at lw_m1 129 rfl) rfl
theorem q153 : (Jvm.Cond.code ({ cls := "TypoSearch", name := "typed", desc := "()I" } : Jvm.MethodName) prog_1_method_11_code (1 : Nat) (Option.some Jvm.ClassFile.FieldType.int)) ∈ lw_all := lw_g (lw_at lw_m1 130 rfl) rfl
theorem q155 : (Jvm.Cond.instanceMethod ({ cls := "TypoSearch", name := "typos", desc := "(I)I" } : Jvm.MethodName)) ∈ lw_all := lw_g (lw_at lw_m1 132 rfl) rfl
theorem q156 : (Jvm.Cond.selects "TypoSearch" ({ cls := "TypoSearch", name := "typos", desc := "(I)I" } : Jvm.MethodName) ({ cls := "TypoSearch", name := "typos", desc := "(I)I" } : Jvm.MethodName)) ∈ lw_all := lw_g (lw_at lw_m1 133 rfl) rfl
theorem q157 : (Jvm.Cond.code ({ cls := "TypoSearch", name := "typos", desc := "(I)I" } : Jvm.MethodName) prog_1_method_24_code (2 : Nat) (Option.some Jvm.ClassFile.FieldType.int)) ∈ lw_all := lw_g (lw_at lw_m1 134 rfl) rfl
theorem q159 : (Jvm.Cond.instanceMethod ({ cls := "TypoSearch", name := "found", desc := "()I" } : Jvm.MethodName)) ∈ lw_all := lw_g (lw_at lw_m1 136 rfl) rfl
theorem q160 : (Jvm.Cond.selects "TypoSearch" ({ cls := "TypoSearch", name := "found", desc := "()I" } : Jvm.MethodName) ({ cls := "TypoSearch", name := "found", desc := "()I" } : Jvm.MethodName)) ∈ lw_all := lw_g (lw_at lw_m1 137 rfl) rfl
theorem q161 : (Jvm.Cond.code ({ cls := "TypoSearch", name := "found", desc := "()I" } : Jvm.MethodName) prog_1_method_25_code (1 : Nat) (Option.some Jvm.ClassFile.FieldType.int)) ∈ lw_all := lw_g (lw_at lw_m1 138 rfl) rfl
theorem q163 : (Jvm.Cond.instanceMethod ({ cls := "TypoSearch", name := "at", desc := "(I)I" } : Jvm.MethodName)) ∈ lw_all := lw_g (lw_at lw_m1 140 rfl) rfl
theorem q164 : (Jvm.Cond.selects "TypoSearch" ({ cls := "TypoSearch", name := "at", desc := "(I)I" } : Jvm.MethodName) ({ cls := "TypoSearch", name := "at", desc := "(I)I" } : Jvm.MethodName)) ∈ lw_all := lw_g (lw_at lw_m1 141 rfl) rfl
theorem q165 : (Jvm.Cond.code ({ cls := "TypoSearch", name := "at", desc := "(I)I" } : Jvm.MethodName) prog_1_method_26_code (3 : Nat) (Option.some Jvm.ClassFile.FieldType.int)) ∈ lw_all := lw_g (lw_at lw_m1 142 rfl) rfl
theorem q166 : (Jvm.Cond.methodLink "TypoSearch" (95 : Nat) ({ cls := "TypoSearch", name := "place", desc := "(I)I" } : Jvm.MethodName)) ∈ lw_all := lw_g (lw_at lw_m1 143 rfl) rfl
theorem q167 : (Jvm.Cond.instanceMethod ({ cls := "TypoSearch", name := "place", desc := "(I)I" } : Jvm.MethodName)) ∈ lw_all := lw_g (lw_at lw_m1 144 rfl) rfl
theorem q168 : (Jvm.Cond.selects "TypoSearch" ({ cls := "TypoSearch", name := "place", desc := "(I)I" } : Jvm.MethodName) ({ cls := "TypoSearch", name := "place", desc := "(I)I" } : Jvm.MethodName)) ∈ lw_all := lw_g (lw_at lw_m1 145 rfl) rfl
theorem q169 : (Jvm.Cond.code ({ cls := "TypoSearch", name := "place", desc := "(I)I" } : Jvm.MethodName) prog_1_method_27_code (4 : Nat) (Option.some Jvm.ClassFile.FieldType.int)) ∈ lw_all := lw_g (lw_at lw_m1 146 rfl) rfl
theorem q170 : (Jvm.Cond.methodLink "TypoSearch" (98 : Nat) ({ cls := "TypoSearch", name := "goesBefore", desc := "(II)Z" } : Jvm.MethodName)) ∈ lw_all := lw_g (lw_at lw_m1 147 rfl) rfl
theorem q171 : (Jvm.Cond.privateMethod ({ cls := "TypoSearch", name := "goesBefore", desc := "(II)Z" } : Jvm.MethodName)) ∈ lw_tbl := lw_at lw_m1 148 rfl
theorem q172 : (Jvm.Cond.instanceMethod ({ cls := "TypoSearch", name := "goesBefore", desc := "(II)Z" } : Jvm.MethodName)) ∈ lw_all := lw_g (lw_at lw_m1 149 rfl) rfl
theorem q173 : (Jvm.Cond.code ({ cls := "TypoSearch", name := "goesBefore", desc := "(II)Z" } : Jvm.MethodName) prog_1_method_21_code (4 : Nat) (Option.some Jvm.ClassFile.FieldType.boolean)) ∈ lw_all := lw_g (lw_at lw_m1 150 rfl) rfl
theorem q174 : (Jvm.Cond.methodLink "TypoSearch" (86 : Nat) ({ cls := "TypoSearch", name := "isQuery", desc := "(I)Z" } : Jvm.MethodName)) ∈ lw_all := lw_g (lw_at lw_m1 151 rfl) rfl
theorem q175 : (Jvm.Cond.privateMethod ({ cls := "TypoSearch", name := "isQuery", desc := "(I)Z" } : Jvm.MethodName)) ∈ lw_tbl := lw_at lw_m1 152 rfl
theorem q176 : (Jvm.Cond.instanceMethod ({ cls := "TypoSearch", name := "isQuery", desc := "(I)Z" } : Jvm.MethodName)) ∈ lw_all := lw_g (lw_at lw_m1 153 rfl) rfl
theorem q177 : (Jvm.Cond.code ({ cls := "TypoSearch", name := "isQuery", desc := "(I)Z" } : Jvm.MethodName) prog_1_method_20_code (3 : Nat) (Option.some Jvm.ClassFile.FieldType.boolean)) ∈ lw_all := lw_g (lw_at lw_m1 154 rfl) rfl
theorem q180 : (Jvm.Cond.instanceMethod ({ cls := "TypoSearch", name := "hints", desc := "()I" } : Jvm.MethodName)) ∈ lw_all := lw_g (lw_at lw_m1 157 rfl) rfl
theorem q181 : (Jvm.Cond.selects "TypoSearch" ({ cls := "TypoSearch", name := "hints", desc := "()I" } : Jvm.MethodName) ({ cls := "TypoSearch", name := "hints", desc := "()I" } : Jvm.MethodName)) ∈ lw_all := lw_g (lw_at lw_m1 158 rfl) rfl
theorem q182 : (Jvm.Cond.code ({ cls := "TypoSearch", name := "hints", desc := "()I" } : Jvm.MethodName) prog_1_method_28_code (4 : Nat) (Option.some Jvm.ClassFile.FieldType.int)) ∈ lw_all := lw_g (lw_at lw_m1 159 rfl) rfl
theorem q183 : (Jvm.Cond.methodLink "TypoSearch" (102 : Nat) ({ cls := "TypoSearch", name := "type", desc := "(I)I" } : Jvm.MethodName)) ∈ lw_all := lw_g (lw_at lw_m1 160 rfl) rfl
theorem q184 : (Jvm.Cond.methodLink "TypoSearch" (105 : Nat) ({ cls := "TypoSearch", name := "rub", desc := "()I" } : Jvm.MethodName)) ∈ lw_all := lw_g (lw_at lw_m1 161 rfl) rfl
theorem q186 : (Jvm.Cond.instanceMethod ({ cls := "TypoSearch", name := "common", desc := "()I" } : Jvm.MethodName)) ∈ lw_all := lw_g (lw_at lw_m1 163 rfl) rfl
theorem q187 : (Jvm.Cond.selects "TypoSearch" ({ cls := "TypoSearch", name := "common", desc := "()I" } : Jvm.MethodName) ({ cls := "TypoSearch", name := "common", desc := "()I" } : Jvm.MethodName)) ∈ lw_all := lw_g (lw_at lw_m1 164 rfl) rfl
theorem q188 : (Jvm.Cond.code ({ cls := "TypoSearch", name := "common", desc := "()I" } : Jvm.MethodName) prog_1_method_29_code (4 : Nat) (Option.some Jvm.ClassFile.FieldType.int)) ∈ lw_all := lw_g (lw_at lw_m1 165 rfl) rfl
theorem q189 : (Jvm.Cond.methodLink "TypoSearch" (108 : Nat) ({ cls := "TypoSearch", name := "shared", desc := "(III)I" } : Jvm.MethodName)) ∈ lw_all := lw_g (lw_at lw_m1 166 rfl) rfl
theorem q190 : (Jvm.Cond.privateMethod ({ cls := "TypoSearch", name := "shared", desc := "(III)I" } : Jvm.MethodName)) ∈ lw_tbl := lw_at lw_m1 167 rfl
theorem q191 : (Jvm.Cond.instanceMethod ({ cls := "TypoSearch", name := "shared", desc := "(III)I" } : Jvm.MethodName)) ∈ lw_all := lw_g (lw_at lw_m1 168 rfl) rfl
theorem q192 : (Jvm.Cond.code ({ cls := "TypoSearch", name := "shared", desc := "(III)I" } : Jvm.MethodName) prog_1_method_30_code (5 : Nat) (Option.some Jvm.ClassFile.FieldType.int)) ∈ lw_all := lw_g (lw_at lw_m1 169 rfl) rfl
theorem in_X0 : ∀ w ∈ wsX00, w ∈ lw_all := lw_in wsX00 [47, 49, 51, 53, 55, 57, 59, 61, 63, 65, 67, 69, 71] (by decide +kernel) (by decide +kernel)
end
section
/-! TypoSearchModel -/
set_option maxRecDepth 100000
def RX1 : String := "TypoSearchModel"
def TX1 : u_T := fun k => match k with
  | 0 => ("TypoSearchModel", "size", "[I", false)
  | 1 => ("TypoSearchModel", "words", "[I", false)
  | 2 => ("TypoSearchModel", "weights", "[I", false)
  | 3 => ("TypoSearchModel", "asked", "I", false)
  | 4 => ("TypoSearchModel", "query", "[I", false)
  | _ => ("TypoSearchModel", "cost", "[I", false)
def tyX1 : Nat → FieldType := fun k => match k with
  | 0 => .array .int
  | 1 => .array .int
  | 2 => .array .int
  | 3 => .int
  | 4 => .array .int
  | _ => .array .int
abbrev wsX10 : List Cond := u_ws RX1 TX1 6
theorem nmX1 : ∀ a, a < 6 → ∀ b, b < 6 → a ≠ b → (TX1 a).2.1 ≠ (TX1 b).2.1 := by decide +kernel
theorem tyX1_ok : ∀ k, k < 6 → parseFieldDescriptor (TX1 k).2.2.1 = some (tyX1 k) := by decide +kernel
abbrev cX1_init : ByteArray := prog_3_method_1_code
def yX1_init : MethodName := ⟨RX1, "<init>", "()V"⟩
theorem dX1_init_0 : decode cX1_init 0 = .ok (.aload_n 0, 1) := by decide +kernel
theorem dX1_init_1 : decode cX1_init 1 = .ok (.invokespecial 1, 3) := by decide +kernel
theorem dX1_init_4 : decode cX1_init 4 = .ok (.aload_n 0, 1) := by decide +kernel
theorem dX1_init_5 : decode cX1_init 5 = .ok (.bipush 10, 2) := by decide +kernel
theorem dX1_init_7 : decode cX1_init 7 = .ok (.newarray .int, 2) := by decide +kernel
theorem dX1_init_9 : decode cX1_init 9 = .ok (.putfield 7, 3) := by decide +kernel
theorem dX1_init_12 : decode cX1_init 12 = .ok (.aload_n 0, 1) := by decide +kernel
theorem dX1_init_13 : decode cX1_init 13 = .ok (.bipush 60, 2) := by decide +kernel
theorem dX1_init_15 : decode cX1_init 15 = .ok (.newarray .int, 2) := by decide +kernel
theorem dX1_init_17 : decode cX1_init 17 = .ok (.putfield 13, 3) := by decide +kernel
theorem dX1_init_20 : decode cX1_init 20 = .ok (.aload_n 0, 1) := by decide +kernel
theorem dX1_init_21 : decode cX1_init 21 = .ok (.bipush 10, 2) := by decide +kernel
theorem dX1_init_23 : decode cX1_init 23 = .ok (.newarray .int, 2) := by decide +kernel
theorem dX1_init_25 : decode cX1_init 25 = .ok (.putfield 16, 3) := by decide +kernel
theorem dX1_init_28 : decode cX1_init 28 = .ok (.aload_n 0, 1) := by decide +kernel
theorem dX1_init_29 : decode cX1_init 29 = .ok (.bipush 7, 2) := by decide +kernel
theorem dX1_init_31 : decode cX1_init 31 = .ok (.newarray .int, 2) := by decide +kernel
theorem dX1_init_33 : decode cX1_init 33 = .ok (.putfield 19, 3) := by decide +kernel
theorem dX1_init_36 : decode cX1_init 36 = .ok (.aload_n 0, 1) := by decide +kernel
theorem dX1_init_37 : decode cX1_init 37 = .ok (.bipush 49, 2) := by decide +kernel
theorem dX1_init_39 : decode cX1_init 39 = .ok (.newarray .int, 2) := by decide +kernel
theorem dX1_init_41 : decode cX1_init 41 = .ok (.putfield 22, 3) := by decide +kernel
theorem dX1_init_44 : decode cX1_init 44 = .ok (.return_, 1) := by decide +kernel
abbrev cX1_begin : ByteArray := prog_3_method_3_code
def yX1_begin : MethodName := ⟨RX1, "begin", "(II)I"⟩
theorem dX1_begin_0 : decode cX1_begin 0 = .ok (.iload_n 1, 1) := by decide +kernel
theorem dX1_begin_1 : decode cX1_begin 1 = .ok (.ifCond .lt 18, 3) := by decide +kernel
theorem dX1_begin_4 : decode cX1_begin 4 = .ok (.iload_n 1, 1) := by decide +kernel
theorem dX1_begin_5 : decode cX1_begin 5 = .ok (.iconst 3, 1) := by decide +kernel
theorem dX1_begin_6 : decode cX1_begin 6 = .ok (.if_icmp .gt 13, 3) := by decide +kernel
theorem dX1_begin_9 : decode cX1_begin 9 = .ok (.iload_n 2, 1) := by decide +kernel
theorem dX1_begin_10 : decode cX1_begin 10 = .ok (.ifCond .lt 9, 3) := by decide +kernel
theorem dX1_begin_13 : decode cX1_begin 13 = .ok (.iload_n 2, 1) := by decide +kernel
theorem dX1_begin_14 : decode cX1_begin 14 = .ok (.bipush 9, 2) := by decide +kernel
theorem dX1_begin_16 : decode cX1_begin 16 = .ok (.if_icmp .le 5, 3) := by decide +kernel
theorem dX1_begin_19 : decode cX1_begin 19 = .ok (.iconst (-1), 1) := by decide +kernel
theorem dX1_begin_20 : decode cX1_begin 20 = .ok (.ireturn, 1) := by decide +kernel
theorem dX1_begin_21 : decode cX1_begin 21 = .ok (.iconst 0, 1) := by decide +kernel
theorem dX1_begin_22 : decode cX1_begin 22 = .ok (.istore_n 3, 1) := by decide +kernel
theorem dX1_begin_23 : decode cX1_begin 23 = .ok (.iload_n 3, 1) := by decide +kernel
theorem dX1_begin_24 : decode cX1_begin 24 = .ok (.bipush 10, 2) := by decide +kernel
theorem dX1_begin_26 : decode cX1_begin 26 = .ok (.if_icmp .ge 44, 3) := by decide +kernel
theorem dX1_begin_29 : decode cX1_begin 29 = .ok (.aload_n 0, 1) := by decide +kernel
theorem dX1_begin_30 : decode cX1_begin 30 = .ok (.getfield 7, 3) := by decide +kernel
theorem dX1_begin_33 : decode cX1_begin 33 = .ok (.iload_n 3, 1) := by decide +kernel
theorem dX1_begin_34 : decode cX1_begin 34 = .ok (.iaload, 1) := by decide +kernel
theorem dX1_begin_35 : decode cX1_begin 35 = .ok (.ifCond .ne 29, 3) := by decide +kernel
theorem dX1_begin_38 : decode cX1_begin 38 = .ok (.aload_n 0, 1) := by decide +kernel
theorem dX1_begin_39 : decode cX1_begin 39 = .ok (.getfield 7, 3) := by decide +kernel
theorem dX1_begin_42 : decode cX1_begin 42 = .ok (.iload_n 3, 1) := by decide +kernel
theorem dX1_begin_43 : decode cX1_begin 43 = .ok (.iconst 1, 1) := by decide +kernel
theorem dX1_begin_44 : decode cX1_begin 44 = .ok (.iastore, 1) := by decide +kernel
theorem dX1_begin_45 : decode cX1_begin 45 = .ok (.aload_n 0, 1) := by decide +kernel
theorem dX1_begin_46 : decode cX1_begin 46 = .ok (.getfield 13, 3) := by decide +kernel
theorem dX1_begin_49 : decode cX1_begin 49 = .ok (.bipush 6, 2) := by decide +kernel
theorem dX1_begin_51 : decode cX1_begin 51 = .ok (.iload_n 3, 1) := by decide +kernel
theorem dX1_begin_52 : decode cX1_begin 52 = .ok (.imul, 1) := by decide +kernel
theorem dX1_begin_53 : decode cX1_begin 53 = .ok (.iload_n 1, 1) := by decide +kernel
theorem dX1_begin_54 : decode cX1_begin 54 = .ok (.iastore, 1) := by decide +kernel
theorem dX1_begin_55 : decode cX1_begin 55 = .ok (.aload_n 0, 1) := by decide +kernel
theorem dX1_begin_56 : decode cX1_begin 56 = .ok (.getfield 16, 3) := by decide +kernel
theorem dX1_begin_59 : decode cX1_begin 59 = .ok (.iload_n 3, 1) := by decide +kernel
theorem dX1_begin_60 : decode cX1_begin 60 = .ok (.iload_n 2, 1) := by decide +kernel
theorem dX1_begin_61 : decode cX1_begin 61 = .ok (.iastore, 1) := by decide +kernel
theorem dX1_begin_62 : decode cX1_begin 62 = .ok (.iload_n 3, 1) := by decide +kernel
theorem dX1_begin_63 : decode cX1_begin 63 = .ok (.ireturn, 1) := by decide +kernel
theorem dX1_begin_64 : decode cX1_begin 64 = .ok (.iinc 3 1, 3) := by decide +kernel
theorem dX1_begin_67 : decode cX1_begin 67 = .ok (.goto (-44), 3) := by decide +kernel
theorem dX1_begin_70 : decode cX1_begin 70 = .ok (.bipush (-2), 2) := by decide +kernel
theorem dX1_begin_72 : decode cX1_begin 72 = .ok (.ireturn, 1) := by decide +kernel
abbrev cX1_extend : ByteArray := prog_3_method_4_code
def yX1_extend : MethodName := ⟨RX1, "extend", "(II)Z"⟩
theorem dX1_extend_0 : decode cX1_extend 0 = .ok (.aload_n 0, 1) := by decide +kernel
theorem dX1_extend_1 : decode cX1_extend 1 = .ok (.iload_n 1, 1) := by decide +kernel
theorem dX1_extend_2 : decode cX1_extend 2 = .ok (.invokevirtual 25, 3) := by decide +kernel
theorem dX1_extend_5 : decode cX1_extend 5 = .ok (.ifCond .eq 23, 3) := by decide +kernel
theorem dX1_extend_8 : decode cX1_extend 8 = .ok (.iload_n 2, 1) := by decide +kernel
theorem dX1_extend_9 : decode cX1_extend 9 = .ok (.ifCond .lt 19, 3) := by decide +kernel
theorem dX1_extend_12 : decode cX1_extend 12 = .ok (.iload_n 2, 1) := by decide +kernel
theorem dX1_extend_13 : decode cX1_extend 13 = .ok (.iconst 3, 1) := by decide +kernel
theorem dX1_extend_14 : decode cX1_extend 14 = .ok (.if_icmp .gt 14, 3) := by decide +kernel
theorem dX1_extend_17 : decode cX1_extend 17 = .ok (.aload_n 0, 1) := by decide +kernel
theorem dX1_extend_18 : decode cX1_extend 18 = .ok (.getfield 7, 3) := by decide +kernel
theorem dX1_extend_21 : decode cX1_extend 21 = .ok (.iload_n 1, 1) := by decide +kernel
theorem dX1_extend_22 : decode cX1_extend 22 = .ok (.iaload, 1) := by decide +kernel
theorem dX1_extend_23 : decode cX1_extend 23 = .ok (.bipush 6, 2) := by decide +kernel
theorem dX1_extend_25 : decode cX1_extend 25 = .ok (.if_icmp .lt 5, 3) := by decide +kernel
theorem dX1_extend_28 : decode cX1_extend 28 = .ok (.iconst 0, 1) := by decide +kernel
theorem dX1_extend_29 : decode cX1_extend 29 = .ok (.ireturn, 1) := by decide +kernel
theorem dX1_extend_30 : decode cX1_extend 30 = .ok (.aload_n 0, 1) := by decide +kernel
theorem dX1_extend_31 : decode cX1_extend 31 = .ok (.getfield 13, 3) := by decide +kernel
theorem dX1_extend_34 : decode cX1_extend 34 = .ok (.bipush 6, 2) := by decide +kernel
theorem dX1_extend_36 : decode cX1_extend 36 = .ok (.iload_n 1, 1) := by decide +kernel
theorem dX1_extend_37 : decode cX1_extend 37 = .ok (.imul, 1) := by decide +kernel
theorem dX1_extend_38 : decode cX1_extend 38 = .ok (.aload_n 0, 1) := by decide +kernel
theorem dX1_extend_39 : decode cX1_extend 39 = .ok (.getfield 7, 3) := by decide +kernel
theorem dX1_extend_42 : decode cX1_extend 42 = .ok (.iload_n 1, 1) := by decide +kernel
theorem dX1_extend_43 : decode cX1_extend 43 = .ok (.iaload, 1) := by decide +kernel
theorem dX1_extend_44 : decode cX1_extend 44 = .ok (.iadd, 1) := by decide +kernel
theorem dX1_extend_45 : decode cX1_extend 45 = .ok (.iload_n 2, 1) := by decide +kernel
theorem dX1_extend_46 : decode cX1_extend 46 = .ok (.iastore, 1) := by decide +kernel
theorem dX1_extend_47 : decode cX1_extend 47 = .ok (.aload_n 0, 1) := by decide +kernel
theorem dX1_extend_48 : decode cX1_extend 48 = .ok (.getfield 7, 3) := by decide +kernel
theorem dX1_extend_51 : decode cX1_extend 51 = .ok (.iload_n 1, 1) := by decide +kernel
theorem dX1_extend_52 : decode cX1_extend 52 = .ok (.dup2, 1) := by decide +kernel
theorem dX1_extend_53 : decode cX1_extend 53 = .ok (.iaload, 1) := by decide +kernel
theorem dX1_extend_54 : decode cX1_extend 54 = .ok (.iconst 1, 1) := by decide +kernel
theorem dX1_extend_55 : decode cX1_extend 55 = .ok (.iadd, 1) := by decide +kernel
theorem dX1_extend_56 : decode cX1_extend 56 = .ok (.iastore, 1) := by decide +kernel
theorem dX1_extend_57 : decode cX1_extend 57 = .ok (.iconst 1, 1) := by decide +kernel
theorem dX1_extend_58 : decode cX1_extend 58 = .ok (.ireturn, 1) := by decide +kernel
abbrev cX1_is : ByteArray := prog_3_method_2_code
def yX1_is : MethodName := ⟨RX1, "is", "(I)Z"⟩
theorem dX1_is_0 : decode cX1_is 0 = .ok (.iload_n 1, 1) := by decide +kernel
theorem dX1_is_1 : decode cX1_is 1 = .ok (.ifCond .lt 22, 3) := by decide +kernel
theorem dX1_is_4 : decode cX1_is 4 = .ok (.iload_n 1, 1) := by decide +kernel
theorem dX1_is_5 : decode cX1_is 5 = .ok (.bipush 10, 2) := by decide +kernel
theorem dX1_is_7 : decode cX1_is 7 = .ok (.if_icmp .ge 16, 3) := by decide +kernel
theorem dX1_is_10 : decode cX1_is 10 = .ok (.aload_n 0, 1) := by decide +kernel
theorem dX1_is_11 : decode cX1_is 11 = .ok (.getfield 7, 3) := by decide +kernel
theorem dX1_is_14 : decode cX1_is 14 = .ok (.iload_n 1, 1) := by decide +kernel
theorem dX1_is_15 : decode cX1_is 15 = .ok (.iaload, 1) := by decide +kernel
theorem dX1_is_16 : decode cX1_is 16 = .ok (.ifCond .le 7, 3) := by decide +kernel
theorem dX1_is_19 : decode cX1_is 19 = .ok (.iconst 1, 1) := by decide +kernel
theorem dX1_is_20 : decode cX1_is 20 = .ok (.goto 4, 3) := by decide +kernel
theorem dX1_is_23 : decode cX1_is 23 = .ok (.iconst 0, 1) := by decide +kernel
theorem dX1_is_24 : decode cX1_is 24 = .ok (.ireturn, 1) := by decide +kernel
abbrev cX1_remove : ByteArray := prog_3_method_5_code
def yX1_remove : MethodName := ⟨RX1, "remove", "(I)Z"⟩
theorem dX1_remove_0 : decode cX1_remove 0 = .ok (.aload_n 0, 1) := by decide +kernel
theorem dX1_remove_1 : decode cX1_remove 1 = .ok (.iload_n 1, 1) := by decide +kernel
theorem dX1_remove_2 : decode cX1_remove 2 = .ok (.invokevirtual 25, 3) := by decide +kernel
theorem dX1_remove_5 : decode cX1_remove 5 = .ok (.ifCond .ne 5, 3) := by decide +kernel
theorem dX1_remove_8 : decode cX1_remove 8 = .ok (.iconst 0, 1) := by decide +kernel
theorem dX1_remove_9 : decode cX1_remove 9 = .ok (.ireturn, 1) := by decide +kernel
theorem dX1_remove_10 : decode cX1_remove 10 = .ok (.aload_n 0, 1) := by decide +kernel
theorem dX1_remove_11 : decode cX1_remove 11 = .ok (.getfield 7, 3) := by decide +kernel
theorem dX1_remove_14 : decode cX1_remove 14 = .ok (.iload_n 1, 1) := by decide +kernel
theorem dX1_remove_15 : decode cX1_remove 15 = .ok (.iconst 0, 1) := by decide +kernel
theorem dX1_remove_16 : decode cX1_remove 16 = .ok (.iastore, 1) := by decide +kernel
theorem dX1_remove_17 : decode cX1_remove 17 = .ok (.iconst 1, 1) := by decide +kernel
theorem dX1_remove_18 : decode cX1_remove 18 = .ok (.ireturn, 1) := by decide +kernel
abbrev cX1_weigh : ByteArray := prog_3_method_6_code
def yX1_weigh : MethodName := ⟨RX1, "weigh", "(II)Z"⟩
theorem dX1_weigh_0 : decode cX1_weigh 0 = .ok (.aload_n 0, 1) := by decide +kernel
theorem dX1_weigh_1 : decode cX1_weigh 1 = .ok (.iload_n 1, 1) := by decide +kernel
theorem dX1_weigh_2 : decode cX1_weigh 2 = .ok (.invokevirtual 25, 3) := by decide +kernel
theorem dX1_weigh_5 : decode cX1_weigh 5 = .ok (.ifCond .eq 13, 3) := by decide +kernel
theorem dX1_weigh_8 : decode cX1_weigh 8 = .ok (.iload_n 2, 1) := by decide +kernel
theorem dX1_weigh_9 : decode cX1_weigh 9 = .ok (.ifCond .lt 9, 3) := by decide +kernel
theorem dX1_weigh_12 : decode cX1_weigh 12 = .ok (.iload_n 2, 1) := by decide +kernel
theorem dX1_weigh_13 : decode cX1_weigh 13 = .ok (.bipush 9, 2) := by decide +kernel
theorem dX1_weigh_15 : decode cX1_weigh 15 = .ok (.if_icmp .le 5, 3) := by decide +kernel
theorem dX1_weigh_18 : decode cX1_weigh 18 = .ok (.iconst 0, 1) := by decide +kernel
theorem dX1_weigh_19 : decode cX1_weigh 19 = .ok (.ireturn, 1) := by decide +kernel
theorem dX1_weigh_20 : decode cX1_weigh 20 = .ok (.aload_n 0, 1) := by decide +kernel
theorem dX1_weigh_21 : decode cX1_weigh 21 = .ok (.getfield 16, 3) := by decide +kernel
theorem dX1_weigh_24 : decode cX1_weigh 24 = .ok (.iload_n 1, 1) := by decide +kernel
theorem dX1_weigh_25 : decode cX1_weigh 25 = .ok (.iload_n 2, 1) := by decide +kernel
theorem dX1_weigh_26 : decode cX1_weigh 26 = .ok (.iastore, 1) := by decide +kernel
theorem dX1_weigh_27 : decode cX1_weigh 27 = .ok (.iconst 1, 1) := by decide +kernel
theorem dX1_weigh_28 : decode cX1_weigh 28 = .ok (.ireturn, 1) := by decide +kernel
abbrev cX1_words : ByteArray := prog_3_method_7_code
def yX1_words : MethodName := ⟨RX1, "words", "()I"⟩
theorem dX1_words_0 : decode cX1_words 0 = .ok (.iconst 0, 1) := by decide +kernel
theorem dX1_words_1 : decode cX1_words 1 = .ok (.istore_n 1, 1) := by decide +kernel
theorem dX1_words_2 : decode cX1_words 2 = .ok (.iconst 0, 1) := by decide +kernel
theorem dX1_words_3 : decode cX1_words 3 = .ok (.istore_n 2, 1) := by decide +kernel
theorem dX1_words_4 : decode cX1_words 4 = .ok (.iload_n 2, 1) := by decide +kernel
theorem dX1_words_5 : decode cX1_words 5 = .ok (.bipush 10, 2) := by decide +kernel
theorem dX1_words_7 : decode cX1_words 7 = .ok (.if_icmp .ge 27, 3) := by decide +kernel
theorem dX1_words_10 : decode cX1_words 10 = .ok (.aload_n 0, 1) := by decide +kernel
theorem dX1_words_11 : decode cX1_words 11 = .ok (.iload_n 2, 1) := by decide +kernel
theorem dX1_words_12 : decode cX1_words 12 = .ok (.invokevirtual 25, 3) := by decide +kernel
theorem dX1_words_15 : decode cX1_words 15 = .ok (.ifCond .eq 11, 3) := by decide +kernel
theorem dX1_words_18 : decode cX1_words 18 = .ok (.iload_n 1, 1) := by decide +kernel
theorem dX1_words_19 : decode cX1_words 19 = .ok (.iconst 1, 1) := by decide +kernel
theorem dX1_words_20 : decode cX1_words 20 = .ok (.iload_n 2, 1) := by decide +kernel
theorem dX1_words_21 : decode cX1_words 21 = .ok (.ishl, 1) := by decide +kernel
theorem dX1_words_22 : decode cX1_words 22 = .ok (.ior, 1) := by decide +kernel
theorem dX1_words_23 : decode cX1_words 23 = .ok (.goto 4, 3) := by decide +kernel
theorem dX1_words_26 : decode cX1_words 26 = .ok (.iload_n 1, 1) := by decide +kernel
theorem dX1_words_27 : decode cX1_words 27 = .ok (.istore_n 1, 1) := by decide +kernel
theorem dX1_words_28 : decode cX1_words 28 = .ok (.iinc 2 1, 3) := by decide +kernel
theorem dX1_words_31 : decode cX1_words 31 = .ok (.goto (-27), 3) := by decide +kernel
theorem dX1_words_34 : decode cX1_words 34 = .ok (.iload_n 1, 1) := by decide +kernel
theorem dX1_words_35 : decode cX1_words 35 = .ok (.ireturn, 1) := by decide +kernel
abbrev cX1_type : ByteArray := prog_3_method_8_code
def yX1_type : MethodName := ⟨RX1, "type", "(I)I"⟩
theorem dX1_type_0 : decode cX1_type 0 = .ok (.iload_n 1, 1) := by decide +kernel
theorem dX1_type_1 : decode cX1_type 1 = .ok (.ifCond .lt 8, 3) := by decide +kernel
theorem dX1_type_4 : decode cX1_type 4 = .ok (.iload_n 1, 1) := by decide +kernel
theorem dX1_type_5 : decode cX1_type 5 = .ok (.iconst 3, 1) := by decide +kernel
theorem dX1_type_6 : decode cX1_type 6 = .ok (.if_icmp .le 5, 3) := by decide +kernel
theorem dX1_type_9 : decode cX1_type 9 = .ok (.iconst (-1), 1) := by decide +kernel
theorem dX1_type_10 : decode cX1_type 10 = .ok (.ireturn, 1) := by decide +kernel
theorem dX1_type_11 : decode cX1_type 11 = .ok (.aload_n 0, 1) := by decide +kernel
theorem dX1_type_12 : decode cX1_type 12 = .ok (.getfield 29, 3) := by decide +kernel
theorem dX1_type_15 : decode cX1_type 15 = .ok (.bipush 6, 2) := by decide +kernel
theorem dX1_type_17 : decode cX1_type 17 = .ok (.if_icmp .lt 6, 3) := by decide +kernel
theorem dX1_type_20 : decode cX1_type 20 = .ok (.bipush (-2), 2) := by decide +kernel
theorem dX1_type_22 : decode cX1_type 22 = .ok (.ireturn, 1) := by decide +kernel
theorem dX1_type_23 : decode cX1_type 23 = .ok (.aload_n 0, 1) := by decide +kernel
theorem dX1_type_24 : decode cX1_type 24 = .ok (.getfield 19, 3) := by decide +kernel
theorem dX1_type_27 : decode cX1_type 27 = .ok (.aload_n 0, 1) := by decide +kernel
theorem dX1_type_28 : decode cX1_type 28 = .ok (.getfield 29, 3) := by decide +kernel
theorem dX1_type_31 : decode cX1_type 31 = .ok (.iload_n 1, 1) := by decide +kernel
theorem dX1_type_32 : decode cX1_type 32 = .ok (.iastore, 1) := by decide +kernel
theorem dX1_type_33 : decode cX1_type 33 = .ok (.aload_n 0, 1) := by decide +kernel
theorem dX1_type_34 : decode cX1_type 34 = .ok (.dup, 1) := by decide +kernel
theorem dX1_type_35 : decode cX1_type 35 = .ok (.getfield 29, 3) := by decide +kernel
theorem dX1_type_38 : decode cX1_type 38 = .ok (.iconst 1, 1) := by decide +kernel
theorem dX1_type_39 : decode cX1_type 39 = .ok (.iadd, 1) := by decide +kernel
theorem dX1_type_40 : decode cX1_type 40 = .ok (.putfield 29, 3) := by decide +kernel
theorem dX1_type_43 : decode cX1_type 43 = .ok (.aload_n 0, 1) := by decide +kernel
theorem dX1_type_44 : decode cX1_type 44 = .ok (.invokevirtual 33, 3) := by decide +kernel
theorem dX1_type_47 : decode cX1_type 47 = .ok (.ireturn, 1) := by decide +kernel
abbrev cX1_count : ByteArray := prog_3_method_9_code
def yX1_count : MethodName := ⟨RX1, "count", "()I"⟩
theorem dX1_count_0 : decode cX1_count 0 = .ok (.aload_n 0, 1) := by decide +kernel
theorem dX1_count_1 : decode cX1_count 1 = .ok (.invokevirtual 37, 3) := by decide +kernel
theorem dX1_count_4 : decode cX1_count 4 = .ok (.istore_n 1, 1) := by decide +kernel
theorem dX1_count_5 : decode cX1_count 5 = .ok (.iconst 0, 1) := by decide +kernel
theorem dX1_count_6 : decode cX1_count 6 = .ok (.istore_n 2, 1) := by decide +kernel
theorem dX1_count_7 : decode cX1_count 7 = .ok (.iconst 0, 1) := by decide +kernel
theorem dX1_count_8 : decode cX1_count 8 = .ok (.istore_n 3, 1) := by decide +kernel
theorem dX1_count_9 : decode cX1_count 9 = .ok (.iload_n 3, 1) := by decide +kernel
theorem dX1_count_10 : decode cX1_count 10 = .ok (.bipush 10, 2) := by decide +kernel
theorem dX1_count_12 : decode cX1_count 12 = .ok (.if_icmp .ge 17, 3) := by decide +kernel
theorem dX1_count_15 : decode cX1_count 15 = .ok (.iload_n 2, 1) := by decide +kernel
theorem dX1_count_16 : decode cX1_count 16 = .ok (.iload_n 1, 1) := by decide +kernel
theorem dX1_count_17 : decode cX1_count 17 = .ok (.iload_n 3, 1) := by decide +kernel
theorem dX1_count_18 : decode cX1_count 18 = .ok (.ishr, 1) := by decide +kernel
theorem dX1_count_19 : decode cX1_count 19 = .ok (.iconst 1, 1) := by decide +kernel
theorem dX1_count_20 : decode cX1_count 20 = .ok (.iand, 1) := by decide +kernel
theorem dX1_count_21 : decode cX1_count 21 = .ok (.iadd, 1) := by decide +kernel
theorem dX1_count_22 : decode cX1_count 22 = .ok (.istore_n 2, 1) := by decide +kernel
theorem dX1_count_23 : decode cX1_count 23 = .ok (.iinc 3 1, 3) := by decide +kernel
theorem dX1_count_26 : decode cX1_count 26 = .ok (.goto (-17), 3) := by decide +kernel
theorem dX1_count_29 : decode cX1_count 29 = .ok (.iload_n 2, 1) := by decide +kernel
theorem dX1_count_30 : decode cX1_count 30 = .ok (.ireturn, 1) := by decide +kernel
abbrev cX1_found : ByteArray := prog_3_method_17_code
def yX1_found : MethodName := ⟨RX1, "found", "()I"⟩
theorem dX1_found_0 : decode cX1_found 0 = .ok (.iconst 0, 1) := by decide +kernel
theorem dX1_found_1 : decode cX1_found 1 = .ok (.istore_n 1, 1) := by decide +kernel
theorem dX1_found_2 : decode cX1_found 2 = .ok (.iconst 0, 1) := by decide +kernel
theorem dX1_found_3 : decode cX1_found 3 = .ok (.istore_n 2, 1) := by decide +kernel
theorem dX1_found_4 : decode cX1_found 4 = .ok (.iload_n 2, 1) := by decide +kernel
theorem dX1_found_5 : decode cX1_found 5 = .ok (.bipush 10, 2) := by decide +kernel
theorem dX1_found_7 : decode cX1_found 7 = .ok (.if_icmp .ge 27, 3) := by decide +kernel
theorem dX1_found_10 : decode cX1_found 10 = .ok (.aload_n 0, 1) := by decide +kernel
theorem dX1_found_11 : decode cX1_found 11 = .ok (.iload_n 2, 1) := by decide +kernel
theorem dX1_found_12 : decode cX1_found 12 = .ok (.invokevirtual 52, 3) := by decide +kernel
theorem dX1_found_15 : decode cX1_found 15 = .ok (.ifCond .eq 11, 3) := by decide +kernel
theorem dX1_found_18 : decode cX1_found 18 = .ok (.iload_n 1, 1) := by decide +kernel
theorem dX1_found_19 : decode cX1_found 19 = .ok (.iconst 1, 1) := by decide +kernel
theorem dX1_found_20 : decode cX1_found 20 = .ok (.iload_n 2, 1) := by decide +kernel
theorem dX1_found_21 : decode cX1_found 21 = .ok (.ishl, 1) := by decide +kernel
theorem dX1_found_22 : decode cX1_found 22 = .ok (.ior, 1) := by decide +kernel
theorem dX1_found_23 : decode cX1_found 23 = .ok (.goto 4, 3) := by decide +kernel
theorem dX1_found_26 : decode cX1_found 26 = .ok (.iload_n 1, 1) := by decide +kernel
theorem dX1_found_27 : decode cX1_found 27 = .ok (.istore_n 1, 1) := by decide +kernel
theorem dX1_found_28 : decode cX1_found 28 = .ok (.iinc 2 1, 3) := by decide +kernel
theorem dX1_found_31 : decode cX1_found 31 = .ok (.goto (-27), 3) := by decide +kernel
theorem dX1_found_34 : decode cX1_found 34 = .ok (.iload_n 1, 1) := by decide +kernel
theorem dX1_found_35 : decode cX1_found 35 = .ok (.ireturn, 1) := by decide +kernel
abbrev cX1_isFound : ByteArray := prog_3_method_16_code
def yX1_isFound : MethodName := ⟨RX1, "isFound", "(I)Z"⟩
theorem dX1_isFound_0 : decode cX1_isFound 0 = .ok (.aload_n 0, 1) := by decide +kernel
theorem dX1_isFound_1 : decode cX1_isFound 1 = .ok (.getfield 29, 3) := by decide +kernel
theorem dX1_isFound_4 : decode cX1_isFound 4 = .ok (.iconst 3, 1) := by decide +kernel
theorem dX1_isFound_5 : decode cX1_isFound 5 = .ok (.if_icmp .ge 7, 3) := by decide +kernel
theorem dX1_isFound_8 : decode cX1_isFound 8 = .ok (.iconst 0, 1) := by decide +kernel
theorem dX1_isFound_9 : decode cX1_isFound 9 = .ok (.goto 16, 3) := by decide +kernel
theorem dX1_isFound_12 : decode cX1_isFound 12 = .ok (.aload_n 0, 1) := by decide +kernel
theorem dX1_isFound_13 : decode cX1_isFound 13 = .ok (.getfield 29, 3) := by decide +kernel
theorem dX1_isFound_16 : decode cX1_isFound 16 = .ok (.iconst 5, 1) := by decide +kernel
theorem dX1_isFound_17 : decode cX1_isFound 17 = .ok (.if_icmp .ge 7, 3) := by decide +kernel
theorem dX1_isFound_20 : decode cX1_isFound 20 = .ok (.iconst 1, 1) := by decide +kernel
theorem dX1_isFound_21 : decode cX1_isFound 21 = .ok (.goto 4, 3) := by decide +kernel
theorem dX1_isFound_24 : decode cX1_isFound 24 = .ok (.iconst 2, 1) := by decide +kernel
theorem dX1_isFound_25 : decode cX1_isFound 25 = .ok (.istore_n 2, 1) := by decide +kernel
theorem dX1_isFound_26 : decode cX1_isFound 26 = .ok (.aload_n 0, 1) := by decide +kernel
theorem dX1_isFound_27 : decode cX1_isFound 27 = .ok (.iload_n 1, 1) := by decide +kernel
theorem dX1_isFound_28 : decode cX1_isFound 28 = .ok (.invokevirtual 25, 3) := by decide +kernel
theorem dX1_isFound_31 : decode cX1_isFound 31 = .ok (.ifCond .eq 16, 3) := by decide +kernel
theorem dX1_isFound_34 : decode cX1_isFound 34 = .ok (.aload_n 0, 1) := by decide +kernel
theorem dX1_isFound_35 : decode cX1_isFound 35 = .ok (.iload_n 1, 1) := by decide +kernel
theorem dX1_isFound_36 : decode cX1_isFound 36 = .ok (.invokevirtual 48, 3) := by decide +kernel
theorem dX1_isFound_39 : decode cX1_isFound 39 = .ok (.iload_n 2, 1) := by decide +kernel
theorem dX1_isFound_40 : decode cX1_isFound 40 = .ok (.if_icmp .gt 7, 3) := by decide +kernel
theorem dX1_isFound_43 : decode cX1_isFound 43 = .ok (.iconst 1, 1) := by decide +kernel
theorem dX1_isFound_44 : decode cX1_isFound 44 = .ok (.goto 4, 3) := by decide +kernel
theorem dX1_isFound_47 : decode cX1_isFound 47 = .ok (.iconst 0, 1) := by decide +kernel
theorem dX1_isFound_48 : decode cX1_isFound 48 = .ok (.ireturn, 1) := by decide +kernel
abbrev cX1_edits : ByteArray := prog_3_method_14_code
def yX1_edits : MethodName := ⟨RX1, "edits", "(I)I"⟩
theorem dX1_edits_0 : decode cX1_edits 0 = .ok (.bipush 100, 2) := by decide +kernel
theorem dX1_edits_2 : decode cX1_edits 2 = .ok (.istore_n 2, 1) := by decide +kernel
theorem dX1_edits_3 : decode cX1_edits 3 = .ok (.iconst 0, 1) := by decide +kernel
theorem dX1_edits_4 : decode cX1_edits 4 = .ok (.istore_n 3, 1) := by decide +kernel
theorem dX1_edits_5 : decode cX1_edits 5 = .ok (.iload_n 3, 1) := by decide +kernel
theorem dX1_edits_6 : decode cX1_edits 6 = .ok (.aload_n 0, 1) := by decide +kernel
theorem dX1_edits_7 : decode cX1_edits 7 = .ok (.getfield 29, 3) := by decide +kernel
theorem dX1_edits_10 : decode cX1_edits 10 = .ok (.if_icmp .gt 62, 3) := by decide +kernel
theorem dX1_edits_13 : decode cX1_edits 13 = .ok (.iconst 0, 1) := by decide +kernel
theorem dX1_edits_14 : decode cX1_edits 14 = .ok (.istore 4, 2) := by decide +kernel
theorem dX1_edits_16 : decode cX1_edits 16 = .ok (.iload 4, 2) := by decide +kernel
theorem dX1_edits_18 : decode cX1_edits 18 = .ok (.aload_n 0, 1) := by decide +kernel
theorem dX1_edits_19 : decode cX1_edits 19 = .ok (.getfield 7, 3) := by decide +kernel
theorem dX1_edits_22 : decode cX1_edits 22 = .ok (.iload_n 1, 1) := by decide +kernel
theorem dX1_edits_23 : decode cX1_edits 23 = .ok (.iaload, 1) := by decide +kernel
theorem dX1_edits_24 : decode cX1_edits 24 = .ok (.if_icmp .gt 42, 3) := by decide +kernel
theorem dX1_edits_27 : decode cX1_edits 27 = .ok (.aload_n 0, 1) := by decide +kernel
theorem dX1_edits_28 : decode cX1_edits 28 = .ok (.getfield 22, 3) := by decide +kernel
theorem dX1_edits_31 : decode cX1_edits 31 = .ok (.bipush 7, 2) := by decide +kernel
theorem dX1_edits_33 : decode cX1_edits 33 = .ok (.iload_n 3, 1) := by decide +kernel
theorem dX1_edits_34 : decode cX1_edits 34 = .ok (.imul, 1) := by decide +kernel
theorem dX1_edits_35 : decode cX1_edits 35 = .ok (.iload 4, 2) := by decide +kernel
theorem dX1_edits_37 : decode cX1_edits 37 = .ok (.iadd, 1) := by decide +kernel
theorem dX1_edits_38 : decode cX1_edits 38 = .ok (.iload_n 3, 1) := by decide +kernel
theorem dX1_edits_39 : decode cX1_edits 39 = .ok (.ifCond .ne 12, 3) := by decide +kernel
theorem dX1_edits_42 : decode cX1_edits 42 = .ok (.iload 4, 2) := by decide +kernel
theorem dX1_edits_44 : decode cX1_edits 44 = .ok (.ifCond .ne 7, 3) := by decide +kernel
theorem dX1_edits_47 : decode cX1_edits 47 = .ok (.iconst 0, 1) := by decide +kernel
theorem dX1_edits_48 : decode cX1_edits 48 = .ok (.goto 11, 3) := by decide +kernel
theorem dX1_edits_51 : decode cX1_edits 51 = .ok (.aload_n 0, 1) := by decide +kernel
theorem dX1_edits_52 : decode cX1_edits 52 = .ok (.iload_n 1, 1) := by decide +kernel
theorem dX1_edits_53 : decode cX1_edits 53 = .ok (.iload_n 3, 1) := by decide +kernel
theorem dX1_edits_54 : decode cX1_edits 54 = .ok (.iload 4, 2) := by decide +kernel
theorem dX1_edits_56 : decode cX1_edits 56 = .ok (.invokevirtual 44, 3) := by decide +kernel
theorem dX1_edits_59 : decode cX1_edits 59 = .ok (.iastore, 1) := by decide +kernel
theorem dX1_edits_60 : decode cX1_edits 60 = .ok (.iinc 4 1, 3) := by decide +kernel
theorem dX1_edits_63 : decode cX1_edits 63 = .ok (.goto (-47), 3) := by decide +kernel
theorem dX1_edits_66 : decode cX1_edits 66 = .ok (.iinc 3 1, 3) := by decide +kernel
theorem dX1_edits_69 : decode cX1_edits 69 = .ok (.goto (-64), 3) := by decide +kernel
theorem dX1_edits_72 : decode cX1_edits 72 = .ok (.iconst 0, 1) := by decide +kernel
theorem dX1_edits_73 : decode cX1_edits 73 = .ok (.istore_n 3, 1) := by decide +kernel
theorem dX1_edits_74 : decode cX1_edits 74 = .ok (.iload_n 3, 1) := by decide +kernel
theorem dX1_edits_75 : decode cX1_edits 75 = .ok (.aload_n 0, 1) := by decide +kernel
theorem dX1_edits_76 : decode cX1_edits 76 = .ok (.getfield 7, 3) := by decide +kernel
theorem dX1_edits_79 : decode cX1_edits 79 = .ok (.iload_n 1, 1) := by decide +kernel
theorem dX1_edits_80 : decode cX1_edits 80 = .ok (.iaload, 1) := by decide +kernel
theorem dX1_edits_81 : decode cX1_edits 81 = .ok (.if_icmp .gt 29, 3) := by decide +kernel
theorem dX1_edits_84 : decode cX1_edits 84 = .ok (.aload_n 0, 1) := by decide +kernel
theorem dX1_edits_85 : decode cX1_edits 85 = .ok (.iload_n 2, 1) := by decide +kernel
theorem dX1_edits_86 : decode cX1_edits 86 = .ok (.aload_n 0, 1) := by decide +kernel
theorem dX1_edits_87 : decode cX1_edits 87 = .ok (.getfield 22, 3) := by decide +kernel
theorem dX1_edits_90 : decode cX1_edits 90 = .ok (.bipush 7, 2) := by decide +kernel
theorem dX1_edits_92 : decode cX1_edits 92 = .ok (.aload_n 0, 1) := by decide +kernel
theorem dX1_edits_93 : decode cX1_edits 93 = .ok (.getfield 29, 3) := by decide +kernel
theorem dX1_edits_96 : decode cX1_edits 96 = .ok (.imul, 1) := by decide +kernel
theorem dX1_edits_97 : decode cX1_edits 97 = .ok (.iload_n 3, 1) := by decide +kernel
theorem dX1_edits_98 : decode cX1_edits 98 = .ok (.iadd, 1) := by decide +kernel
theorem dX1_edits_99 : decode cX1_edits 99 = .ok (.iaload, 1) := by decide +kernel
theorem dX1_edits_100 : decode cX1_edits 100 = .ok (.invokevirtual 40, 3) := by decide +kernel
theorem dX1_edits_103 : decode cX1_edits 103 = .ok (.istore_n 2, 1) := by decide +kernel
theorem dX1_edits_104 : decode cX1_edits 104 = .ok (.iinc 3 1, 3) := by decide +kernel
theorem dX1_edits_107 : decode cX1_edits 107 = .ok (.goto (-33), 3) := by decide +kernel
theorem dX1_edits_110 : decode cX1_edits 110 = .ok (.iload_n 2, 1) := by decide +kernel
theorem dX1_edits_111 : decode cX1_edits 111 = .ok (.ireturn, 1) := by decide +kernel
end
section
set_option maxRecDepth 100000
abbrev cX1_step : ByteArray := prog_3_method_13_code
def yX1_step : MethodName := ⟨RX1, "step", "(III)I"⟩
theorem dX1_step_0 : decode cX1_step 0 = .ok (.bipush 100, 2) := by decide +kernel
theorem dX1_step_2 : decode cX1_step 2 = .ok (.istore 4, 2) := by decide +kernel
theorem dX1_step_4 : decode cX1_step 4 = .ok (.iload_n 2, 1) := by decide +kernel
theorem dX1_step_5 : decode cX1_step 5 = .ok (.iconst 1, 1) := by decide +kernel
theorem dX1_step_6 : decode cX1_step 6 = .ok (.if_icmp .ne 7, 3) := by decide +kernel
theorem dX1_step_9 : decode cX1_step 9 = .ok (.iconst 2, 1) := by decide +kernel
theorem dX1_step_10 : decode cX1_step 10 = .ok (.goto 4, 3) := by decide +kernel
theorem dX1_step_13 : decode cX1_step 13 = .ok (.iconst 1, 1) := by decide +kernel
theorem dX1_step_14 : decode cX1_step 14 = .ok (.istore 5, 2) := by decide +kernel
theorem dX1_step_16 : decode cX1_step 16 = .ok (.iload_n 2, 1) := by decide +kernel
theorem dX1_step_17 : decode cX1_step 17 = .ok (.ifCond .le 28, 3) := by decide +kernel
theorem dX1_step_20 : decode cX1_step 20 = .ok (.aload_n 0, 1) := by decide +kernel
theorem dX1_step_21 : decode cX1_step 21 = .ok (.iload 4, 2) := by decide +kernel
theorem dX1_step_23 : decode cX1_step 23 = .ok (.aload_n 0, 1) := by decide +kernel
theorem dX1_step_24 : decode cX1_step 24 = .ok (.getfield 22, 3) := by decide +kernel
theorem dX1_step_27 : decode cX1_step 27 = .ok (.bipush 7, 2) := by decide +kernel
theorem dX1_step_29 : decode cX1_step 29 = .ok (.iload_n 2, 1) := by decide +kernel
theorem dX1_step_30 : decode cX1_step 30 = .ok (.imul, 1) := by decide +kernel
theorem dX1_step_31 : decode cX1_step 31 = .ok (.bipush 7, 2) := by decide +kernel
theorem dX1_step_33 : decode cX1_step 33 = .ok (.isub, 1) := by decide +kernel
theorem dX1_step_34 : decode cX1_step 34 = .ok (.iload_n 3, 1) := by decide +kernel
theorem dX1_step_35 : decode cX1_step 35 = .ok (.iadd, 1) := by decide +kernel
theorem dX1_step_36 : decode cX1_step 36 = .ok (.iaload, 1) := by decide +kernel
theorem dX1_step_37 : decode cX1_step 37 = .ok (.iload 5, 2) := by decide +kernel
theorem dX1_step_39 : decode cX1_step 39 = .ok (.iadd, 1) := by decide +kernel
theorem dX1_step_40 : decode cX1_step 40 = .ok (.invokevirtual 40, 3) := by decide +kernel
theorem dX1_step_43 : decode cX1_step 43 = .ok (.istore 4, 2) := by decide +kernel
theorem dX1_step_45 : decode cX1_step 45 = .ok (.iload_n 3, 1) := by decide +kernel
theorem dX1_step_46 : decode cX1_step 46 = .ok (.ifCond .le 34, 3) := by decide +kernel
theorem dX1_step_49 : decode cX1_step 49 = .ok (.aload_n 0, 1) := by decide +kernel
theorem dX1_step_50 : decode cX1_step 50 = .ok (.iload 4, 2) := by decide +kernel
theorem dX1_step_52 : decode cX1_step 52 = .ok (.aload_n 0, 1) := by decide +kernel
theorem dX1_step_53 : decode cX1_step 53 = .ok (.getfield 22, 3) := by decide +kernel
theorem dX1_step_56 : decode cX1_step 56 = .ok (.bipush 7, 2) := by decide +kernel
theorem dX1_step_58 : decode cX1_step 58 = .ok (.iload_n 2, 1) := by decide +kernel
theorem dX1_step_59 : decode cX1_step 59 = .ok (.imul, 1) := by decide +kernel
theorem dX1_step_60 : decode cX1_step 60 = .ok (.iload_n 3, 1) := by decide +kernel
theorem dX1_step_61 : decode cX1_step 61 = .ok (.iadd, 1) := by decide +kernel
theorem dX1_step_62 : decode cX1_step 62 = .ok (.iconst 1, 1) := by decide +kernel
theorem dX1_step_63 : decode cX1_step 63 = .ok (.isub, 1) := by decide +kernel
theorem dX1_step_64 : decode cX1_step 64 = .ok (.iaload, 1) := by decide +kernel
theorem dX1_step_65 : decode cX1_step 65 = .ok (.iload_n 2, 1) := by decide +kernel
theorem dX1_step_66 : decode cX1_step 66 = .ok (.ifCond .ne 7, 3) := by decide +kernel
theorem dX1_step_69 : decode cX1_step 69 = .ok (.iconst 2, 1) := by decide +kernel
theorem dX1_step_70 : decode cX1_step 70 = .ok (.goto 4, 3) := by decide +kernel
theorem dX1_step_73 : decode cX1_step 73 = .ok (.iconst 1, 1) := by decide +kernel
theorem dX1_step_74 : decode cX1_step 74 = .ok (.iadd, 1) := by decide +kernel
theorem dX1_step_75 : decode cX1_step 75 = .ok (.invokevirtual 40, 3) := by decide +kernel
theorem dX1_step_78 : decode cX1_step 78 = .ok (.istore 4, 2) := by decide +kernel
theorem dX1_step_80 : decode cX1_step 80 = .ok (.iload_n 2, 1) := by decide +kernel
theorem dX1_step_81 : decode cX1_step 81 = .ok (.ifCond .le 72, 3) := by decide +kernel
theorem dX1_step_84 : decode cX1_step 84 = .ok (.iload_n 3, 1) := by decide +kernel
theorem dX1_step_85 : decode cX1_step 85 = .ok (.ifCond .le 68, 3) := by decide +kernel
theorem dX1_step_88 : decode cX1_step 88 = .ok (.aload_n 0, 1) := by decide +kernel
theorem dX1_step_89 : decode cX1_step 89 = .ok (.getfield 19, 3) := by decide +kernel
theorem dX1_step_92 : decode cX1_step 92 = .ok (.iload_n 2, 1) := by decide +kernel
theorem dX1_step_93 : decode cX1_step 93 = .ok (.iconst 1, 1) := by decide +kernel
theorem dX1_step_94 : decode cX1_step 94 = .ok (.isub, 1) := by decide +kernel
theorem dX1_step_95 : decode cX1_step 95 = .ok (.iaload, 1) := by decide +kernel
theorem dX1_step_96 : decode cX1_step 96 = .ok (.aload_n 0, 1) := by decide +kernel
theorem dX1_step_97 : decode cX1_step 97 = .ok (.getfield 13, 3) := by decide +kernel
theorem dX1_step_100 : decode cX1_step 100 = .ok (.bipush 6, 2) := by decide +kernel
theorem dX1_step_102 : decode cX1_step 102 = .ok (.iload_n 1, 1) := by decide +kernel
theorem dX1_step_103 : decode cX1_step 103 = .ok (.imul, 1) := by decide +kernel
theorem dX1_step_104 : decode cX1_step 104 = .ok (.iload_n 3, 1) := by decide +kernel
theorem dX1_step_105 : decode cX1_step 105 = .ok (.iadd, 1) := by decide +kernel
theorem dX1_step_106 : decode cX1_step 106 = .ok (.iconst 1, 1) := by decide +kernel
theorem dX1_step_107 : decode cX1_step 107 = .ok (.isub, 1) := by decide +kernel
theorem dX1_step_108 : decode cX1_step 108 = .ok (.iaload, 1) := by decide +kernel
theorem dX1_step_109 : decode cX1_step 109 = .ok (.if_icmp .ne 7, 3) := by decide +kernel
theorem dX1_step_112 : decode cX1_step 112 = .ok (.iconst 1, 1) := by decide +kernel
theorem dX1_step_113 : decode cX1_step 113 = .ok (.goto 4, 3) := by decide +kernel
theorem dX1_step_116 : decode cX1_step 116 = .ok (.iconst 0, 1) := by decide +kernel
theorem dX1_step_117 : decode cX1_step 117 = .ok (.istore 6, 2) := by decide +kernel
theorem dX1_step_119 : decode cX1_step 119 = .ok (.aload_n 0, 1) := by decide +kernel
theorem dX1_step_120 : decode cX1_step 120 = .ok (.iload 4, 2) := by decide +kernel
theorem dX1_step_122 : decode cX1_step 122 = .ok (.aload_n 0, 1) := by decide +kernel
theorem dX1_step_123 : decode cX1_step 123 = .ok (.getfield 22, 3) := by decide +kernel
theorem dX1_step_126 : decode cX1_step 126 = .ok (.bipush 7, 2) := by decide +kernel
theorem dX1_step_128 : decode cX1_step 128 = .ok (.iload_n 2, 1) := by decide +kernel
theorem dX1_step_129 : decode cX1_step 129 = .ok (.imul, 1) := by decide +kernel
theorem dX1_step_130 : decode cX1_step 130 = .ok (.iload_n 3, 1) := by decide +kernel
theorem dX1_step_131 : decode cX1_step 131 = .ok (.iadd, 1) := by decide +kernel
theorem dX1_step_132 : decode cX1_step 132 = .ok (.bipush 8, 2) := by decide +kernel
theorem dX1_step_134 : decode cX1_step 134 = .ok (.isub, 1) := by decide +kernel
theorem dX1_step_135 : decode cX1_step 135 = .ok (.iaload, 1) := by decide +kernel
theorem dX1_step_136 : decode cX1_step 136 = .ok (.iload 6, 2) := by decide +kernel
theorem dX1_step_138 : decode cX1_step 138 = .ok (.ifCond .eq 7, 3) := by decide +kernel
theorem dX1_step_141 : decode cX1_step 141 = .ok (.iconst 0, 1) := by decide +kernel
theorem dX1_step_142 : decode cX1_step 142 = .ok (.goto 5, 3) := by decide +kernel
theorem dX1_step_145 : decode cX1_step 145 = .ok (.iload 5, 2) := by decide +kernel
theorem dX1_step_147 : decode cX1_step 147 = .ok (.iadd, 1) := by decide +kernel
theorem dX1_step_148 : decode cX1_step 148 = .ok (.invokevirtual 40, 3) := by decide +kernel
theorem dX1_step_151 : decode cX1_step 151 = .ok (.istore 4, 2) := by decide +kernel
theorem dX1_step_153 : decode cX1_step 153 = .ok (.iload 4, 2) := by decide +kernel
theorem dX1_step_155 : decode cX1_step 155 = .ok (.ireturn, 1) := by decide +kernel
abbrev cX1_min : ByteArray := prog_3_method_12_code
def yX1_min : MethodName := ⟨RX1, "min", "(II)I"⟩
theorem dX1_min_0 : decode cX1_min 0 = .ok (.iload_n 1, 1) := by decide +kernel
theorem dX1_min_1 : decode cX1_min 1 = .ok (.iload_n 2, 1) := by decide +kernel
theorem dX1_min_2 : decode cX1_min 2 = .ok (.if_icmp .ge 7, 3) := by decide +kernel
theorem dX1_min_5 : decode cX1_min 5 = .ok (.iload_n 1, 1) := by decide +kernel
theorem dX1_min_6 : decode cX1_min 6 = .ok (.goto 4, 3) := by decide +kernel
theorem dX1_min_9 : decode cX1_min 9 = .ok (.iload_n 2, 1) := by decide +kernel
theorem dX1_min_10 : decode cX1_min 10 = .ok (.ireturn, 1) := by decide +kernel
abbrev cX1_rub : ByteArray := prog_3_method_10_code
def yX1_rub : MethodName := ⟨RX1, "rub", "()I"⟩
theorem dX1_rub_0 : decode cX1_rub 0 = .ok (.aload_n 0, 1) := by decide +kernel
theorem dX1_rub_1 : decode cX1_rub 1 = .ok (.getfield 29, 3) := by decide +kernel
theorem dX1_rub_4 : decode cX1_rub 4 = .ok (.ifCond .ne 5, 3) := by decide +kernel
theorem dX1_rub_7 : decode cX1_rub 7 = .ok (.iconst (-1), 1) := by decide +kernel
theorem dX1_rub_8 : decode cX1_rub 8 = .ok (.ireturn, 1) := by decide +kernel
theorem dX1_rub_9 : decode cX1_rub 9 = .ok (.aload_n 0, 1) := by decide +kernel
theorem dX1_rub_10 : decode cX1_rub 10 = .ok (.dup, 1) := by decide +kernel
theorem dX1_rub_11 : decode cX1_rub 11 = .ok (.getfield 29, 3) := by decide +kernel
theorem dX1_rub_14 : decode cX1_rub 14 = .ok (.iconst 1, 1) := by decide +kernel
theorem dX1_rub_15 : decode cX1_rub 15 = .ok (.isub, 1) := by decide +kernel
theorem dX1_rub_16 : decode cX1_rub 16 = .ok (.putfield 29, 3) := by decide +kernel
theorem dX1_rub_19 : decode cX1_rub 19 = .ok (.aload_n 0, 1) := by decide +kernel
theorem dX1_rub_20 : decode cX1_rub 20 = .ok (.getfield 19, 3) := by decide +kernel
theorem dX1_rub_23 : decode cX1_rub 23 = .ok (.aload_n 0, 1) := by decide +kernel
theorem dX1_rub_24 : decode cX1_rub 24 = .ok (.getfield 29, 3) := by decide +kernel
theorem dX1_rub_27 : decode cX1_rub 27 = .ok (.iaload, 1) := by decide +kernel
theorem dX1_rub_28 : decode cX1_rub 28 = .ok (.ireturn, 1) := by decide +kernel
abbrev cX1_typed : ByteArray := prog_3_method_11_code
def yX1_typed : MethodName := ⟨RX1, "typed", "()I"⟩
theorem dX1_typed_0 : decode cX1_typed 0 = .ok (.aload_n 0, 1) := by decide +kernel
theorem dX1_typed_1 : decode cX1_typed 1 = .ok (.getfield 29, 3) := by decide +kernel
theorem dX1_typed_4 : decode cX1_typed 4 = .ok (.ireturn, 1) := by decide +kernel
abbrev cX1_typos : ByteArray := prog_3_method_15_code
def yX1_typos : MethodName := ⟨RX1, "typos", "(I)I"⟩
theorem dX1_typos_0 : decode cX1_typos 0 = .ok (.aload_n 0, 1) := by decide +kernel
theorem dX1_typos_1 : decode cX1_typos 1 = .ok (.iload_n 1, 1) := by decide +kernel
theorem dX1_typos_2 : decode cX1_typos 2 = .ok (.invokevirtual 25, 3) := by decide +kernel
theorem dX1_typos_5 : decode cX1_typos 5 = .ok (.ifCond .eq 16, 3) := by decide +kernel
theorem dX1_typos_8 : decode cX1_typos 8 = .ok (.aload_n 0, 1) := by decide +kernel
theorem dX1_typos_9 : decode cX1_typos 9 = .ok (.aload_n 0, 1) := by decide +kernel
theorem dX1_typos_10 : decode cX1_typos 10 = .ok (.iload_n 1, 1) := by decide +kernel
theorem dX1_typos_11 : decode cX1_typos 11 = .ok (.invokevirtual 48, 3) := by decide +kernel
theorem dX1_typos_14 : decode cX1_typos 14 = .ok (.iconst 3, 1) := by decide +kernel
theorem dX1_typos_15 : decode cX1_typos 15 = .ok (.invokevirtual 40, 3) := by decide +kernel
theorem dX1_typos_18 : decode cX1_typos 18 = .ok (.goto 4, 3) := by decide +kernel
theorem dX1_typos_21 : decode cX1_typos 21 = .ok (.iconst (-1), 1) := by decide +kernel
theorem dX1_typos_22 : decode cX1_typos 22 = .ok (.ireturn, 1) := by decide +kernel
abbrev cX1_at : ByteArray := prog_3_method_20_code
def yX1_at : MethodName := ⟨RX1, "at", "(I)I"⟩
theorem dX1_at_0 : decode cX1_at 0 = .ok (.iconst 0, 1) := by decide +kernel
theorem dX1_at_1 : decode cX1_at 1 = .ok (.istore_n 2, 1) := by decide +kernel
theorem dX1_at_2 : decode cX1_at 2 = .ok (.iload_n 2, 1) := by decide +kernel
theorem dX1_at_3 : decode cX1_at 3 = .ok (.bipush 10, 2) := by decide +kernel
theorem dX1_at_5 : decode cX1_at 5 = .ok (.if_icmp .ge 28, 3) := by decide +kernel
theorem dX1_at_8 : decode cX1_at 8 = .ok (.aload_n 0, 1) := by decide +kernel
theorem dX1_at_9 : decode cX1_at 9 = .ok (.iload_n 2, 1) := by decide +kernel
theorem dX1_at_10 : decode cX1_at 10 = .ok (.invokevirtual 52, 3) := by decide +kernel
theorem dX1_at_13 : decode cX1_at 13 = .ok (.ifCond .eq 14, 3) := by decide +kernel
theorem dX1_at_16 : decode cX1_at 16 = .ok (.aload_n 0, 1) := by decide +kernel
theorem dX1_at_17 : decode cX1_at 17 = .ok (.iload_n 2, 1) := by decide +kernel
theorem dX1_at_18 : decode cX1_at 18 = .ok (.invokevirtual 58, 3) := by decide +kernel
theorem dX1_at_21 : decode cX1_at 21 = .ok (.iload_n 1, 1) := by decide +kernel
theorem dX1_at_22 : decode cX1_at 22 = .ok (.if_icmp .ne 5, 3) := by decide +kernel
theorem dX1_at_25 : decode cX1_at 25 = .ok (.iload_n 2, 1) := by decide +kernel
theorem dX1_at_26 : decode cX1_at 26 = .ok (.ireturn, 1) := by decide +kernel
theorem dX1_at_27 : decode cX1_at 27 = .ok (.iinc 2 1, 3) := by decide +kernel
theorem dX1_at_30 : decode cX1_at 30 = .ok (.goto (-28), 3) := by decide +kernel
theorem dX1_at_33 : decode cX1_at 33 = .ok (.iconst (-1), 1) := by decide +kernel
theorem dX1_at_34 : decode cX1_at 34 = .ok (.ireturn, 1) := by decide +kernel
abbrev cX1_place : ByteArray := prog_3_method_21_code
def yX1_place : MethodName := ⟨RX1, "place", "(I)I"⟩
theorem dX1_place_0 : decode cX1_place 0 = .ok (.aload_n 0, 1) := by decide +kernel
theorem dX1_place_1 : decode cX1_place 1 = .ok (.iload_n 1, 1) := by decide +kernel
theorem dX1_place_2 : decode cX1_place 2 = .ok (.invokevirtual 52, 3) := by decide +kernel
theorem dX1_place_5 : decode cX1_place 5 = .ok (.ifCond .ne 5, 3) := by decide +kernel
theorem dX1_place_8 : decode cX1_place 8 = .ok (.iconst (-1), 1) := by decide +kernel
theorem dX1_place_9 : decode cX1_place 9 = .ok (.ireturn, 1) := by decide +kernel
theorem dX1_place_10 : decode cX1_place 10 = .ok (.iconst 0, 1) := by decide +kernel
theorem dX1_place_11 : decode cX1_place 11 = .ok (.istore_n 2, 1) := by decide +kernel
theorem dX1_place_12 : decode cX1_place 12 = .ok (.iconst 0, 1) := by decide +kernel
theorem dX1_place_13 : decode cX1_place 13 = .ok (.istore_n 3, 1) := by decide +kernel
theorem dX1_place_14 : decode cX1_place 14 = .ok (.iload_n 3, 1) := by decide +kernel
theorem dX1_place_15 : decode cX1_place 15 = .ok (.bipush 10, 2) := by decide +kernel
theorem dX1_place_17 : decode cX1_place 17 = .ok (.if_icmp .ge 39, 3) := by decide +kernel
theorem dX1_place_20 : decode cX1_place 20 = .ok (.iload_n 3, 1) := by decide +kernel
theorem dX1_place_21 : decode cX1_place 21 = .ok (.iload_n 1, 1) := by decide +kernel
theorem dX1_place_22 : decode cX1_place 22 = .ok (.if_icmp .eq 26, 3) := by decide +kernel
theorem dX1_place_25 : decode cX1_place 25 = .ok (.aload_n 0, 1) := by decide +kernel
theorem dX1_place_26 : decode cX1_place 26 = .ok (.iload_n 3, 1) := by decide +kernel
theorem dX1_place_27 : decode cX1_place 27 = .ok (.invokevirtual 52, 3) := by decide +kernel
theorem dX1_place_30 : decode cX1_place 30 = .ok (.ifCond .eq 18, 3) := by decide +kernel
theorem dX1_place_33 : decode cX1_place 33 = .ok (.aload_n 0, 1) := by decide +kernel
theorem dX1_place_34 : decode cX1_place 34 = .ok (.iload_n 3, 1) := by decide +kernel
theorem dX1_place_35 : decode cX1_place 35 = .ok (.iload_n 1, 1) := by decide +kernel
theorem dX1_place_36 : decode cX1_place 36 = .ok (.invokevirtual 61, 3) := by decide +kernel
theorem dX1_place_39 : decode cX1_place 39 = .ok (.ifCond .eq 9, 3) := by decide +kernel
theorem dX1_place_42 : decode cX1_place 42 = .ok (.iload_n 2, 1) := by decide +kernel
theorem dX1_place_43 : decode cX1_place 43 = .ok (.iconst 1, 1) := by decide +kernel
theorem dX1_place_44 : decode cX1_place 44 = .ok (.iadd, 1) := by decide +kernel
theorem dX1_place_45 : decode cX1_place 45 = .ok (.goto 4, 3) := by decide +kernel
theorem dX1_place_48 : decode cX1_place 48 = .ok (.iload_n 2, 1) := by decide +kernel
theorem dX1_place_49 : decode cX1_place 49 = .ok (.istore_n 2, 1) := by decide +kernel
theorem dX1_place_50 : decode cX1_place 50 = .ok (.iinc 3 1, 3) := by decide +kernel
theorem dX1_place_53 : decode cX1_place 53 = .ok (.goto (-39), 3) := by decide +kernel
theorem dX1_place_56 : decode cX1_place 56 = .ok (.iload_n 2, 1) := by decide +kernel
theorem dX1_place_57 : decode cX1_place 57 = .ok (.ireturn, 1) := by decide +kernel
abbrev cX1_before : ByteArray := prog_3_method_19_code
def yX1_before : MethodName := ⟨RX1, "before", "(II)Z"⟩
theorem dX1_before_0 : decode cX1_before 0 = .ok (.aload_n 0, 1) := by decide +kernel
theorem dX1_before_1 : decode cX1_before 1 = .ok (.iload_n 1, 1) := by decide +kernel
theorem dX1_before_2 : decode cX1_before 2 = .ok (.invokevirtual 48, 3) := by decide +kernel
theorem dX1_before_5 : decode cX1_before 5 = .ok (.istore_n 3, 1) := by decide +kernel
theorem dX1_before_6 : decode cX1_before 6 = .ok (.aload_n 0, 1) := by decide +kernel
theorem dX1_before_7 : decode cX1_before 7 = .ok (.iload_n 2, 1) := by decide +kernel
theorem dX1_before_8 : decode cX1_before 8 = .ok (.invokevirtual 48, 3) := by decide +kernel
theorem dX1_before_11 : decode cX1_before 11 = .ok (.istore 4, 2) := by decide +kernel
theorem dX1_before_13 : decode cX1_before 13 = .ok (.aload_n 0, 1) := by decide +kernel
theorem dX1_before_14 : decode cX1_before 14 = .ok (.iload_n 1, 1) := by decide +kernel
theorem dX1_before_15 : decode cX1_before 15 = .ok (.invokevirtual 55, 3) := by decide +kernel
theorem dX1_before_18 : decode cX1_before 18 = .ok (.istore 5, 2) := by decide +kernel
theorem dX1_before_20 : decode cX1_before 20 = .ok (.aload_n 0, 1) := by decide +kernel
theorem dX1_before_21 : decode cX1_before 21 = .ok (.iload_n 2, 1) := by decide +kernel
theorem dX1_before_22 : decode cX1_before 22 = .ok (.invokevirtual 55, 3) := by decide +kernel
theorem dX1_before_25 : decode cX1_before 25 = .ok (.istore 6, 2) := by decide +kernel
theorem dX1_before_27 : decode cX1_before 27 = .ok (.iload_n 3, 1) := by decide +kernel
theorem dX1_before_28 : decode cX1_before 28 = .ok (.iload 4, 2) := by decide +kernel
theorem dX1_before_30 : decode cX1_before 30 = .ok (.if_icmp .eq 15, 3) := by decide +kernel
theorem dX1_before_33 : decode cX1_before 33 = .ok (.iload_n 3, 1) := by decide +kernel
theorem dX1_before_34 : decode cX1_before 34 = .ok (.iload 4, 2) := by decide +kernel
theorem dX1_before_36 : decode cX1_before 36 = .ok (.if_icmp .ge 7, 3) := by decide +kernel
theorem dX1_before_39 : decode cX1_before 39 = .ok (.iconst 1, 1) := by decide +kernel
theorem dX1_before_40 : decode cX1_before 40 = .ok (.goto 4, 3) := by decide +kernel
theorem dX1_before_43 : decode cX1_before 43 = .ok (.iconst 0, 1) := by decide +kernel
theorem dX1_before_44 : decode cX1_before 44 = .ok (.ireturn, 1) := by decide +kernel
theorem dX1_before_45 : decode cX1_before 45 = .ok (.iload 5, 2) := by decide +kernel
theorem dX1_before_47 : decode cX1_before 47 = .ok (.iload 6, 2) := by decide +kernel
theorem dX1_before_49 : decode cX1_before 49 = .ok (.if_icmp .eq 6, 3) := by decide +kernel
theorem dX1_before_52 : decode cX1_before 52 = .ok (.iload 5, 2) := by decide +kernel
theorem dX1_before_54 : decode cX1_before 54 = .ok (.ireturn, 1) := by decide +kernel
theorem dX1_before_55 : decode cX1_before 55 = .ok (.aload_n 0, 1) := by decide +kernel
theorem dX1_before_56 : decode cX1_before 56 = .ok (.getfield 7, 3) := by decide +kernel
theorem dX1_before_59 : decode cX1_before 59 = .ok (.iload_n 1, 1) := by decide +kernel
theorem dX1_before_60 : decode cX1_before 60 = .ok (.iaload, 1) := by decide +kernel
theorem dX1_before_61 : decode cX1_before 61 = .ok (.aload_n 0, 1) := by decide +kernel
theorem dX1_before_62 : decode cX1_before 62 = .ok (.getfield 7, 3) := by decide +kernel
theorem dX1_before_65 : decode cX1_before 65 = .ok (.iload_n 2, 1) := by decide +kernel
theorem dX1_before_66 : decode cX1_before 66 = .ok (.iaload, 1) := by decide +kernel
theorem dX1_before_67 : decode cX1_before 67 = .ok (.if_icmp .eq 24, 3) := by decide +kernel
theorem dX1_before_70 : decode cX1_before 70 = .ok (.aload_n 0, 1) := by decide +kernel
theorem dX1_before_71 : decode cX1_before 71 = .ok (.getfield 7, 3) := by decide +kernel
theorem dX1_before_74 : decode cX1_before 74 = .ok (.iload_n 1, 1) := by decide +kernel
theorem dX1_before_75 : decode cX1_before 75 = .ok (.iaload, 1) := by decide +kernel
theorem dX1_before_76 : decode cX1_before 76 = .ok (.aload_n 0, 1) := by decide +kernel
theorem dX1_before_77 : decode cX1_before 77 = .ok (.getfield 7, 3) := by decide +kernel
theorem dX1_before_80 : decode cX1_before 80 = .ok (.iload_n 2, 1) := by decide +kernel
theorem dX1_before_81 : decode cX1_before 81 = .ok (.iaload, 1) := by decide +kernel
theorem dX1_before_82 : decode cX1_before 82 = .ok (.if_icmp .ge 7, 3) := by decide +kernel
theorem dX1_before_85 : decode cX1_before 85 = .ok (.iconst 1, 1) := by decide +kernel
theorem dX1_before_86 : decode cX1_before 86 = .ok (.goto 4, 3) := by decide +kernel
theorem dX1_before_89 : decode cX1_before 89 = .ok (.iconst 0, 1) := by decide +kernel
theorem dX1_before_90 : decode cX1_before 90 = .ok (.ireturn, 1) := by decide +kernel
theorem dX1_before_91 : decode cX1_before 91 = .ok (.aload_n 0, 1) := by decide +kernel
theorem dX1_before_92 : decode cX1_before 92 = .ok (.getfield 16, 3) := by decide +kernel
theorem dX1_before_95 : decode cX1_before 95 = .ok (.iload_n 1, 1) := by decide +kernel
theorem dX1_before_96 : decode cX1_before 96 = .ok (.iaload, 1) := by decide +kernel
theorem dX1_before_97 : decode cX1_before 97 = .ok (.aload_n 0, 1) := by decide +kernel
theorem dX1_before_98 : decode cX1_before 98 = .ok (.getfield 16, 3) := by decide +kernel
theorem dX1_before_101 : decode cX1_before 101 = .ok (.iload_n 2, 1) := by decide +kernel
theorem dX1_before_102 : decode cX1_before 102 = .ok (.iaload, 1) := by decide +kernel
theorem dX1_before_103 : decode cX1_before 103 = .ok (.if_icmp .gt 23, 3) := by decide +kernel
theorem dX1_before_106 : decode cX1_before 106 = .ok (.aload_n 0, 1) := by decide +kernel
theorem dX1_before_107 : decode cX1_before 107 = .ok (.getfield 16, 3) := by decide +kernel
theorem dX1_before_110 : decode cX1_before 110 = .ok (.iload_n 1, 1) := by decide +kernel
theorem dX1_before_111 : decode cX1_before 111 = .ok (.iaload, 1) := by decide +kernel
theorem dX1_before_112 : decode cX1_before 112 = .ok (.aload_n 0, 1) := by decide +kernel
theorem dX1_before_113 : decode cX1_before 113 = .ok (.getfield 16, 3) := by decide +kernel
theorem dX1_before_116 : decode cX1_before 116 = .ok (.iload_n 2, 1) := by decide +kernel
theorem dX1_before_117 : decode cX1_before 117 = .ok (.iaload, 1) := by decide +kernel
theorem dX1_before_118 : decode cX1_before 118 = .ok (.if_icmp .ne 12, 3) := by decide +kernel
theorem dX1_before_121 : decode cX1_before 121 = .ok (.iload_n 1, 1) := by decide +kernel
theorem dX1_before_122 : decode cX1_before 122 = .ok (.iload_n 2, 1) := by decide +kernel
theorem dX1_before_123 : decode cX1_before 123 = .ok (.if_icmp .ge 7, 3) := by decide +kernel
theorem dX1_before_126 : decode cX1_before 126 = .ok (.iconst 1, 1) := by decide +kernel
theorem dX1_before_127 : decode cX1_before 127 = .ok (.goto 4, 3) := by decide +kernel
theorem dX1_before_130 : decode cX1_before 130 = .ok (.iconst 0, 1) := by decide +kernel
theorem dX1_before_131 : decode cX1_before 131 = .ok (.ireturn, 1) := by decide +kernel
abbrev cX1_exact : ByteArray := prog_3_method_18_code
def yX1_exact : MethodName := ⟨RX1, "exact", "(I)Z"⟩
theorem dX1_exact_0 : decode cX1_exact 0 = .ok (.aload_n 0, 1) := by decide +kernel
theorem dX1_exact_1 : decode cX1_exact 1 = .ok (.getfield 7, 3) := by decide +kernel
theorem dX1_exact_4 : decode cX1_exact 4 = .ok (.iload_n 1, 1) := by decide +kernel
theorem dX1_exact_5 : decode cX1_exact 5 = .ok (.iaload, 1) := by decide +kernel
theorem dX1_exact_6 : decode cX1_exact 6 = .ok (.aload_n 0, 1) := by decide +kernel
theorem dX1_exact_7 : decode cX1_exact 7 = .ok (.getfield 29, 3) := by decide +kernel
theorem dX1_exact_10 : decode cX1_exact 10 = .ok (.if_icmp .ne 7, 3) := by decide +kernel
theorem dX1_exact_13 : decode cX1_exact 13 = .ok (.iconst 1, 1) := by decide +kernel
theorem dX1_exact_14 : decode cX1_exact 14 = .ok (.goto 4, 3) := by decide +kernel
theorem dX1_exact_17 : decode cX1_exact 17 = .ok (.iconst 0, 1) := by decide +kernel
theorem dX1_exact_18 : decode cX1_exact 18 = .ok (.istore_n 2, 1) := by decide +kernel
theorem dX1_exact_19 : decode cX1_exact 19 = .ok (.iconst 0, 1) := by decide +kernel
theorem dX1_exact_20 : decode cX1_exact 20 = .ok (.istore_n 3, 1) := by decide +kernel
theorem dX1_exact_21 : decode cX1_exact 21 = .ok (.iload_n 3, 1) := by decide +kernel
theorem dX1_exact_22 : decode cX1_exact 22 = .ok (.aload_n 0, 1) := by decide +kernel
theorem dX1_exact_23 : decode cX1_exact 23 = .ok (.getfield 29, 3) := by decide +kernel
theorem dX1_exact_26 : decode cX1_exact 26 = .ok (.if_icmp .ge 39, 3) := by decide +kernel
theorem dX1_exact_29 : decode cX1_exact 29 = .ok (.iload_n 2, 1) := by decide +kernel
theorem dX1_exact_30 : decode cX1_exact 30 = .ok (.ifCond .eq 35, 3) := by decide +kernel
theorem dX1_exact_33 : decode cX1_exact 33 = .ok (.aload_n 0, 1) := by decide +kernel
theorem dX1_exact_34 : decode cX1_exact 34 = .ok (.getfield 13, 3) := by decide +kernel
theorem dX1_exact_37 : decode cX1_exact 37 = .ok (.bipush 6, 2) := by decide +kernel
theorem dX1_exact_39 : decode cX1_exact 39 = .ok (.iload_n 1, 1) := by decide +kernel
theorem dX1_exact_40 : decode cX1_exact 40 = .ok (.imul, 1) := by decide +kernel
theorem dX1_exact_41 : decode cX1_exact 41 = .ok (.iload_n 3, 1) := by decide +kernel
theorem dX1_exact_42 : decode cX1_exact 42 = .ok (.iadd, 1) := by decide +kernel
theorem dX1_exact_43 : decode cX1_exact 43 = .ok (.iaload, 1) := by decide +kernel
theorem dX1_exact_44 : decode cX1_exact 44 = .ok (.aload_n 0, 1) := by decide +kernel
theorem dX1_exact_45 : decode cX1_exact 45 = .ok (.getfield 19, 3) := by decide +kernel
theorem dX1_exact_48 : decode cX1_exact 48 = .ok (.iload_n 3, 1) := by decide +kernel
theorem dX1_exact_49 : decode cX1_exact 49 = .ok (.iaload, 1) := by decide +kernel
theorem dX1_exact_50 : decode cX1_exact 50 = .ok (.if_icmp .ne 7, 3) := by decide +kernel
theorem dX1_exact_53 : decode cX1_exact 53 = .ok (.iconst 1, 1) := by decide +kernel
theorem dX1_exact_54 : decode cX1_exact 54 = .ok (.goto 4, 3) := by decide +kernel
theorem dX1_exact_57 : decode cX1_exact 57 = .ok (.iconst 0, 1) := by decide +kernel
theorem dX1_exact_58 : decode cX1_exact 58 = .ok (.istore_n 2, 1) := by decide +kernel
theorem dX1_exact_59 : decode cX1_exact 59 = .ok (.iinc 3 1, 3) := by decide +kernel
theorem dX1_exact_62 : decode cX1_exact 62 = .ok (.goto (-41), 3) := by decide +kernel
theorem dX1_exact_65 : decode cX1_exact 65 = .ok (.iload_n 2, 1) := by decide +kernel
theorem dX1_exact_66 : decode cX1_exact 66 = .ok (.ireturn, 1) := by decide +kernel
abbrev cX1_hints : ByteArray := prog_3_method_22_code
def yX1_hints : MethodName := ⟨RX1, "hints", "()I"⟩
theorem dX1_hints_0 : decode cX1_hints 0 = .ok (.iconst 0, 1) := by decide +kernel
theorem dX1_hints_1 : decode cX1_hints 1 = .ok (.istore_n 1, 1) := by decide +kernel
theorem dX1_hints_2 : decode cX1_hints 2 = .ok (.iconst 0, 1) := by decide +kernel
theorem dX1_hints_3 : decode cX1_hints 3 = .ok (.istore_n 2, 1) := by decide +kernel
theorem dX1_hints_4 : decode cX1_hints 4 = .ok (.iload_n 2, 1) := by decide +kernel
theorem dX1_hints_5 : decode cX1_hints 5 = .ok (.iconst 4, 1) := by decide +kernel
theorem dX1_hints_6 : decode cX1_hints 6 = .ok (.if_icmp .ge 46, 3) := by decide +kernel
theorem dX1_hints_9 : decode cX1_hints 9 = .ok (.aload_n 0, 1) := by decide +kernel
theorem dX1_hints_10 : decode cX1_hints 10 = .ok (.getfield 29, 3) := by decide +kernel
theorem dX1_hints_13 : decode cX1_hints 13 = .ok (.bipush 6, 2) := by decide +kernel
theorem dX1_hints_15 : decode cX1_hints 15 = .ok (.if_icmp .ge 37, 3) := by decide +kernel
theorem dX1_hints_18 : decode cX1_hints 18 = .ok (.aload_n 0, 1) := by decide +kernel
theorem dX1_hints_19 : decode cX1_hints 19 = .ok (.iload_n 2, 1) := by decide +kernel
theorem dX1_hints_20 : decode cX1_hints 20 = .ok (.invokevirtual 65, 3) := by decide +kernel
theorem dX1_hints_23 : decode cX1_hints 23 = .ok (.pop, 1) := by decide +kernel
theorem dX1_hints_24 : decode cX1_hints 24 = .ok (.aload_n 0, 1) := by decide +kernel
theorem dX1_hints_25 : decode cX1_hints 25 = .ok (.invokevirtual 37, 3) := by decide +kernel
theorem dX1_hints_28 : decode cX1_hints 28 = .ok (.ifCond .eq 11, 3) := by decide +kernel
theorem dX1_hints_31 : decode cX1_hints 31 = .ok (.iload_n 1, 1) := by decide +kernel
theorem dX1_hints_32 : decode cX1_hints 32 = .ok (.iconst 1, 1) := by decide +kernel
theorem dX1_hints_33 : decode cX1_hints 33 = .ok (.iload_n 2, 1) := by decide +kernel
theorem dX1_hints_34 : decode cX1_hints 34 = .ok (.ishl, 1) := by decide +kernel
theorem dX1_hints_35 : decode cX1_hints 35 = .ok (.ior, 1) := by decide +kernel
theorem dX1_hints_36 : decode cX1_hints 36 = .ok (.goto 4, 3) := by decide +kernel
theorem dX1_hints_39 : decode cX1_hints 39 = .ok (.iload_n 1, 1) := by decide +kernel
theorem dX1_hints_40 : decode cX1_hints 40 = .ok (.istore_n 1, 1) := by decide +kernel
theorem dX1_hints_41 : decode cX1_hints 41 = .ok (.aload_n 0, 1) := by decide +kernel
theorem dX1_hints_42 : decode cX1_hints 42 = .ok (.invokevirtual 68, 3) := by decide +kernel
theorem dX1_hints_45 : decode cX1_hints 45 = .ok (.pop, 1) := by decide +kernel
theorem dX1_hints_46 : decode cX1_hints 46 = .ok (.iinc 2 1, 3) := by decide +kernel
theorem dX1_hints_49 : decode cX1_hints 49 = .ok (.goto (-45), 3) := by decide +kernel
theorem dX1_hints_52 : decode cX1_hints 52 = .ok (.iload_n 1, 1) := by decide +kernel
theorem dX1_hints_53 : decode cX1_hints 53 = .ok (.ireturn, 1) := by decide +kernel
abbrev cX1_common : ByteArray := prog_3_method_23_code
def yX1_common : MethodName := ⟨RX1, "common", "()I"⟩
theorem dX1_common_0 : decode cX1_common 0 = .ok (.aload_n 0, 1) := by decide +kernel
theorem dX1_common_1 : decode cX1_common 1 = .ok (.invokevirtual 37, 3) := by decide +kernel
theorem dX1_common_4 : decode cX1_common 4 = .ok (.istore_n 1, 1) := by decide +kernel
theorem dX1_common_5 : decode cX1_common 5 = .ok (.iload_n 1, 1) := by decide +kernel
theorem dX1_common_6 : decode cX1_common 6 = .ok (.ifCond .ne 7, 3) := by decide +kernel
theorem dX1_common_9 : decode cX1_common 9 = .ok (.iconst 0, 1) := by decide +kernel
theorem dX1_common_10 : decode cX1_common 10 = .ok (.goto 5, 3) := by decide +kernel
theorem dX1_common_13 : decode cX1_common 13 = .ok (.bipush 6, 2) := by decide +kernel
theorem dX1_common_15 : decode cX1_common 15 = .ok (.istore_n 2, 1) := by decide +kernel
theorem dX1_common_16 : decode cX1_common 16 = .ok (.iconst 0, 1) := by decide +kernel
theorem dX1_common_17 : decode cX1_common 17 = .ok (.istore_n 3, 1) := by decide +kernel
theorem dX1_common_18 : decode cX1_common 18 = .ok (.iload_n 3, 1) := by decide +kernel
theorem dX1_common_19 : decode cX1_common 19 = .ok (.bipush 10, 2) := by decide +kernel
theorem dX1_common_21 : decode cX1_common 21 = .ok (.if_icmp .ge 73, 3) := by decide +kernel
theorem dX1_common_24 : decode cX1_common 24 = .ok (.iconst 0, 1) := by decide +kernel
theorem dX1_common_25 : decode cX1_common 25 = .ok (.istore 4, 2) := by decide +kernel
theorem dX1_common_27 : decode cX1_common 27 = .ok (.iload 4, 2) := by decide +kernel
theorem dX1_common_29 : decode cX1_common 29 = .ok (.bipush 10, 2) := by decide +kernel
theorem dX1_common_31 : decode cX1_common 31 = .ok (.if_icmp .ge 57, 3) := by decide +kernel
theorem dX1_common_34 : decode cX1_common 34 = .ok (.iload_n 1, 1) := by decide +kernel
theorem dX1_common_35 : decode cX1_common 35 = .ok (.iload_n 3, 1) := by decide +kernel
theorem dX1_common_36 : decode cX1_common 36 = .ok (.ishr, 1) := by decide +kernel
theorem dX1_common_37 : decode cX1_common 37 = .ok (.iconst 1, 1) := by decide +kernel
theorem dX1_common_38 : decode cX1_common 38 = .ok (.iand, 1) := by decide +kernel
theorem dX1_common_39 : decode cX1_common 39 = .ok (.iconst 1, 1) := by decide +kernel
theorem dX1_common_40 : decode cX1_common 40 = .ok (.if_icmp .ne 17, 3) := by decide +kernel
theorem dX1_common_43 : decode cX1_common 43 = .ok (.iload_n 1, 1) := by decide +kernel
theorem dX1_common_44 : decode cX1_common 44 = .ok (.iload 4, 2) := by decide +kernel
theorem dX1_common_46 : decode cX1_common 46 = .ok (.ishr, 1) := by decide +kernel
theorem dX1_common_47 : decode cX1_common 47 = .ok (.iconst 1, 1) := by decide +kernel
theorem dX1_common_48 : decode cX1_common 48 = .ok (.iand, 1) := by decide +kernel
theorem dX1_common_49 : decode cX1_common 49 = .ok (.iconst 1, 1) := by decide +kernel
theorem dX1_common_50 : decode cX1_common 50 = .ok (.if_icmp .ne 7, 3) := by decide +kernel
theorem dX1_common_53 : decode cX1_common 53 = .ok (.iconst 1, 1) := by decide +kernel
theorem dX1_common_54 : decode cX1_common 54 = .ok (.goto 4, 3) := by decide +kernel
theorem dX1_common_57 : decode cX1_common 57 = .ok (.iconst 0, 1) := by decide +kernel
theorem dX1_common_58 : decode cX1_common 58 = .ok (.istore 5, 2) := by decide +kernel
theorem dX1_common_60 : decode cX1_common 60 = .ok (.iload 5, 2) := by decide +kernel
theorem dX1_common_62 : decode cX1_common 62 = .ok (.ifCond .eq 18, 3) := by decide +kernel
theorem dX1_common_65 : decode cX1_common 65 = .ok (.aload_n 0, 1) := by decide +kernel
theorem dX1_common_66 : decode cX1_common 66 = .ok (.iload_n 2, 1) := by decide +kernel
theorem dX1_common_67 : decode cX1_common 67 = .ok (.aload_n 0, 1) := by decide +kernel
theorem dX1_common_68 : decode cX1_common 68 = .ok (.iload_n 3, 1) := by decide +kernel
theorem dX1_common_69 : decode cX1_common 69 = .ok (.iload 4, 2) := by decide +kernel
theorem dX1_common_71 : decode cX1_common 71 = .ok (.invokevirtual 71, 3) := by decide +kernel
theorem dX1_common_74 : decode cX1_common 74 = .ok (.invokevirtual 40, 3) := by decide +kernel
theorem dX1_common_77 : decode cX1_common 77 = .ok (.goto 4, 3) := by decide +kernel
theorem dX1_common_80 : decode cX1_common 80 = .ok (.iload_n 2, 1) := by decide +kernel
theorem dX1_common_81 : decode cX1_common 81 = .ok (.istore_n 2, 1) := by decide +kernel
theorem dX1_common_82 : decode cX1_common 82 = .ok (.iinc 4 1, 3) := by decide +kernel
theorem dX1_common_85 : decode cX1_common 85 = .ok (.goto (-58), 3) := by decide +kernel
theorem dX1_common_88 : decode cX1_common 88 = .ok (.iinc 3 1, 3) := by decide +kernel
theorem dX1_common_91 : decode cX1_common 91 = .ok (.goto (-73), 3) := by decide +kernel
theorem dX1_common_94 : decode cX1_common 94 = .ok (.iload_n 2, 1) := by decide +kernel
theorem dX1_common_95 : decode cX1_common 95 = .ok (.ireturn, 1) := by decide +kernel
abbrev cX1_shared : ByteArray := prog_3_method_24_code
def yX1_shared : MethodName := ⟨RX1, "shared", "(II)I"⟩
theorem dX1_shared_0 : decode cX1_shared 0 = .ok (.iconst 0, 1) := by decide +kernel
theorem dX1_shared_1 : decode cX1_shared 1 = .ok (.istore_n 3, 1) := by decide +kernel
theorem dX1_shared_2 : decode cX1_shared 2 = .ok (.iload_n 3, 1) := by decide +kernel
theorem dX1_shared_3 : decode cX1_shared 3 = .ok (.aload_n 0, 1) := by decide +kernel
theorem dX1_shared_4 : decode cX1_shared 4 = .ok (.getfield 7, 3) := by decide +kernel
theorem dX1_shared_7 : decode cX1_shared 7 = .ok (.iload_n 1, 1) := by decide +kernel
theorem dX1_shared_8 : decode cX1_shared 8 = .ok (.iaload, 1) := by decide +kernel
theorem dX1_shared_9 : decode cX1_shared 9 = .ok (.if_icmp .ge 44, 3) := by decide +kernel
theorem dX1_shared_12 : decode cX1_shared 12 = .ok (.iload_n 3, 1) := by decide +kernel
theorem dX1_shared_13 : decode cX1_shared 13 = .ok (.aload_n 0, 1) := by decide +kernel
theorem dX1_shared_14 : decode cX1_shared 14 = .ok (.getfield 7, 3) := by decide +kernel
theorem dX1_shared_17 : decode cX1_shared 17 = .ok (.iload_n 2, 1) := by decide +kernel
theorem dX1_shared_18 : decode cX1_shared 18 = .ok (.iaload, 1) := by decide +kernel
theorem dX1_shared_19 : decode cX1_shared 19 = .ok (.if_icmp .ge 34, 3) := by decide +kernel
theorem dX1_shared_22 : decode cX1_shared 22 = .ok (.aload_n 0, 1) := by decide +kernel
theorem dX1_shared_23 : decode cX1_shared 23 = .ok (.getfield 13, 3) := by decide +kernel
theorem dX1_shared_26 : decode cX1_shared 26 = .ok (.bipush 6, 2) := by decide +kernel
theorem dX1_shared_28 : decode cX1_shared 28 = .ok (.iload_n 1, 1) := by decide +kernel
theorem dX1_shared_29 : decode cX1_shared 29 = .ok (.imul, 1) := by decide +kernel
theorem dX1_shared_30 : decode cX1_shared 30 = .ok (.iload_n 3, 1) := by decide +kernel
theorem dX1_shared_31 : decode cX1_shared 31 = .ok (.iadd, 1) := by decide +kernel
theorem dX1_shared_32 : decode cX1_shared 32 = .ok (.iaload, 1) := by decide +kernel
theorem dX1_shared_33 : decode cX1_shared 33 = .ok (.aload_n 0, 1) := by decide +kernel
theorem dX1_shared_34 : decode cX1_shared 34 = .ok (.getfield 13, 3) := by decide +kernel
theorem dX1_shared_37 : decode cX1_shared 37 = .ok (.bipush 6, 2) := by decide +kernel
theorem dX1_shared_39 : decode cX1_shared 39 = .ok (.iload_n 2, 1) := by decide +kernel
theorem dX1_shared_40 : decode cX1_shared 40 = .ok (.imul, 1) := by decide +kernel
theorem dX1_shared_41 : decode cX1_shared 41 = .ok (.iload_n 3, 1) := by decide +kernel
theorem dX1_shared_42 : decode cX1_shared 42 = .ok (.iadd, 1) := by decide +kernel
theorem dX1_shared_43 : decode cX1_shared 43 = .ok (.iaload, 1) := by decide +kernel
theorem dX1_shared_44 : decode cX1_shared 44 = .ok (.if_icmp .ne 9, 3) := by decide +kernel
theorem dX1_shared_47 : decode cX1_shared 47 = .ok (.iinc 3 1, 3) := by decide +kernel
theorem dX1_shared_50 : decode cX1_shared 50 = .ok (.goto (-48), 3) := by decide +kernel
theorem dX1_shared_53 : decode cX1_shared 53 = .ok (.iload_n 3, 1) := by decide +kernel
theorem dX1_shared_54 : decode cX1_shared 54 = .ok (.ireturn, 1) := by decide +kernel
end
section
set_option maxRecDepth 100000
theorem q25 : (Jvm.Cond.initialized "TypoSearchModel") ∈ lw_all := lw_g (lw_at lw_m1 2 rfl) rfl
theorem q194 : (Jvm.Cond.instantiable "TypoSearchModel" (6 : Nat)) ∈ lw_all := lw_g (lw_at lw_m1 171 rfl) rfl
theorem q196 : (Jvm.Cond.instanceMethod ({ cls := "TypoSearchModel", name := "<init>", desc := "()V" } : Jvm.MethodName)) ∈ lw_all := lw_g (lw_at lw_m1 173 rfl) rfl
theorem q197 : (Jvm.Cond.code ({ cls := "TypoSearchModel", name := "<init>", desc := "()V" } : Jvm.MethodName) prog_3_method_1_code (1 : Nat) (Option.none : Option Jvm.ClassFile.FieldType)) ∈ lw_all := lw_g (lw_at lw_m1 174 rfl) rfl
theorem q198 : (Jvm.Cond.methodLink "TypoSearchModel" (1 : Nat) ({ cls := "java/lang/Object", name := "<init>", desc := "()V" } : Jvm.MethodName)) ∈ lw_all := lw_g (lw_at lw_m1 175 rfl) rfl
theorem q199 : (Jvm.Cond.fieldLink "TypoSearchModel" (7 : Nat) "TypoSearchModel" "size" "[I") ∈ lw_all := lw_g (lw_at lw_m1 176 rfl) rfl
theorem q200 : (Jvm.Cond.fieldLink "TypoSearchModel" (13 : Nat) "TypoSearchModel" "words" "[I") ∈ lw_all := lw_g (lw_at lw_m1 177 rfl) rfl
theorem q201 : (Jvm.Cond.fieldLink "TypoSearchModel" (16 : Nat) "TypoSearchModel" "weights" "[I") ∈ lw_all := lw_g (lw_at lw_m1 178 rfl) rfl
theorem q202 : (Jvm.Cond.fieldLink "TypoSearchModel" (29 : Nat) "TypoSearchModel" "asked" "I") ∈ lw_all := lw_g (lw_at lw_m1 179 rfl) rfl
theorem q203 : (Jvm.Cond.fieldLink "TypoSearchModel" (19 : Nat) "TypoSearchModel" "query" "[I") ∈ lw_all := lw_g (lw_at lw_m1 180 rfl) rfl
theorem q204 : (Jvm.Cond.fieldLink "TypoSearchModel" (22 : Nat) "TypoSearchModel" "cost" "[I") ∈ lw_all := lw_g (lw_at lw_m1 181 rfl) rfl
theorem q205 : (Jvm.Cond.lays "TypoSearchModel" "TypoSearchModel" "size" "[I") ∈ lw_all := lw_g (lw_at lw_m1 182 rfl) rfl
theorem q206 : (Jvm.Cond.soleField "TypoSearchModel" "size") ∈ lw_all := lw_g (lw_at lw_m1 183 rfl) rfl
theorem q207 : (Jvm.Cond.lays "TypoSearchModel" "TypoSearchModel" "words" "[I") ∈ lw_all := lw_g (lw_at lw_m1 184 rfl) rfl
theorem q208 : (Jvm.Cond.soleField "TypoSearchModel" "words") ∈ lw_all := lw_g (lw_at lw_m1 185 rfl) rfl
theorem q209 : (Jvm.Cond.lays "TypoSearchModel" "TypoSearchModel" "weights" "[I") ∈ lw_all := lw_g (lw_at lw_m1 186 rfl) rfl
theorem q210 : (Jvm.Cond.soleField "TypoSearchModel" "weights") ∈ lw_all := lw_g (lw_at lw_m1 187 rfl) rfl
theorem q211 : (Jvm.Cond.lays "TypoSearchModel" "TypoSearchModel" "asked" "I") ∈ lw_all := lw_g (lw_at lw_m1 188 rfl) rfl
theorem q212 : (Jvm.Cond.soleField "TypoSearchModel" "asked") ∈ lw_all := lw_g (lw_at lw_m1 189 rfl) rfl
theorem q213 : (Jvm.Cond.lays "TypoSearchModel" "TypoSearchModel" "query" "[I") ∈ lw_all := lw_g (lw_at lw_m1 190 rfl) rfl
theorem q214 : (Jvm.Cond.soleField "TypoSearchModel" "query") ∈ lw_all := lw_g (lw_at lw_m1 191 rfl) rfl
theorem q215 : (Jvm.Cond.lays "TypoSearchModel" "TypoSearchModel" "cost" "[I") ∈ lw_all := lw_g (lw_at lw_m1 192 rfl) rfl
theorem q216 : (Jvm.Cond.soleField "TypoSearchModel" "cost") ∈ lw_all := lw_g (lw_at lw_m1 193 rfl) rfl
theorem q217 : (Jvm.Cond.superclass "TypoSearchModel" "java/lang/Object") ∈ lw_all := lw_g (lw_at lw_m1 194 rfl) rfl
theorem q220 : (Jvm.Cond.instanceMethod ({ cls := "TypoSearchModel", name := "begin", desc := "(II)I" } : Jvm.MethodName)) ∈ lw_all := lw_g (lw_at lw_m1 197 rfl) rfl
theorem q221 : (Jvm.Cond.selects "TypoSearchModel" ({ cls := "TypoSearchModel", name := "begin", desc := "(II)I" } : Jvm.MethodName) ({ cls := "TypoSearchModel", name := "begin", desc := "(II)I" } : Jvm.MethodName)) ∈ lw_all := lw_g (lw_at lw_m1 198 rfl) rfl
theorem q222 : (Jvm.Cond.code ({ cls := "TypoSearchModel", name := "begin", desc := "(II)I" } : Jvm.MethodName) prog_3_method_3_code (4 : Nat) (Option.some Jvm.ClassFile.FieldType.int)) ∈ lw_all := lw_g (lw_at lw_m1 199 rfl) rfl
theorem q224 : (Jvm.Cond.instanceMethod ({ cls := "TypoSearchModel", name := "extend", desc := "(II)Z" } : Jvm.MethodName)) ∈ lw_all := lw_g (lw_at lw_m1 201 rfl) rfl
theorem q225 : (Jvm.Cond.selects "TypoSearchModel" ({ cls := "TypoSearchModel", name := "extend", desc := "(II)Z" } : Jvm.MethodName) ({ cls := "TypoSearchModel", name := "extend", desc := "(II)Z" } : Jvm.MethodName)) ∈ lw_all := lw_g (lw_at lw_m1 202 rfl) rfl
theorem q226 : (Jvm.Cond.code ({ cls := "TypoSearchModel", name := "extend", desc := "(II)Z" } : Jvm.MethodName) prog_3_method_4_code (3 : Nat) (Option.some Jvm.ClassFile.FieldType.boolean)) ∈ lw_all := lw_g (lw_at lw_m1 203 rfl) rfl
theorem q227 : (Jvm.Cond.methodLink "TypoSearchModel" (25 : Nat) ({ cls := "TypoSearchModel", name := "is", desc := "(I)Z" } : Jvm.MethodName)) ∈ lw_all := lw_g (lw_at lw_m1 204 rfl) rfl
theorem q228 : (Jvm.Cond.privateMethod ({ cls := "TypoSearchModel", name := "is", desc := "(I)Z" } : Jvm.MethodName)) ∈ lw_tbl := lw_at lw_m1 205 rfl
theorem q229 : (Jvm.Cond.instanceMethod ({ cls := "TypoSearchModel", name := "is", desc := "(I)Z" } : Jvm.MethodName)) ∈ lw_all := lw_g (lw_at lw_m1 206 rfl) rfl
theorem q230 : (Jvm.Cond.code ({ cls := "TypoSearchModel", name := "is", desc := "(I)Z" } : Jvm.MethodName) prog_3_method_2_code (2 : Nat) (Option.some Jvm.ClassFile.FieldType.boolean)) ∈ lw_all := lw_g (lw_at lw_m1 207 rfl) rfl
theorem q232 : (Jvm.Cond.instanceMethod ({ cls := "TypoSearchModel", name := "remove", desc := "(I)Z" } : Jvm.MethodName)) ∈ lw_all := lw_g (lw_at lw_m1 209 rfl) rfl
theorem q233 : (Jvm.Cond.selects "TypoSearchModel" ({ cls := "TypoSearchModel", name := "remove", desc := "(I)Z" } : Jvm.MethodName) ({ cls := "TypoSearchModel", name := "remove", desc := "(I)Z" } : Jvm.MethodName)) ∈ lw_all := lw_g (lw_at lw_m1 210 rfl) rfl
theorem q234 : (Jvm.Cond.code ({ cls := "TypoSearchModel", name := "remove", desc := "(I)Z" } : Jvm.MethodName) prog_3_method_5_code (2 : Nat) (Option.some Jvm.ClassFile.FieldType.boolean)) ∈ lw_all := lw_g (lw_at lw_m1 211 rfl) rfl
theorem q236 : (Jvm.Cond.instanceMethod ({ cls := "TypoSearchModel", name := "weigh", desc := "(II)Z" } : Jvm.MethodName)) ∈ lw_all := lw_g (lw_at lw_m1 213 rfl) rfl
theorem q237 : (Jvm.Cond.selects "TypoSearchModel" ({ cls := "TypoSearchModel", name := "weigh", desc := "(II)Z" } : Jvm.MethodName) ({ cls := "TypoSearchModel", name := "weigh", desc := "(II)Z" } : Jvm.MethodName)) ∈ lw_all := lw_g (lw_at lw_m1 214 rfl) rfl
theorem q238 : (Jvm.Cond.code ({ cls := "TypoSearchModel", name := "weigh", desc := "(II)Z" } : Jvm.MethodName) prog_3_method_6_code (3 : Nat) (Option.some Jvm.ClassFile.FieldType.boolean)) ∈ lw_all := lw_g (lw_at lw_m1 215 rfl) rfl
theorem q240 : (Jvm.Cond.instanceMethod ({ cls := "TypoSearchModel", name := "words", desc := "()I" } : Jvm.MethodName)) ∈ lw_all := lw_g (lw_at lw_m1 217 rfl) rfl
theorem q241 : (Jvm.Cond.selects "TypoSearchModel" ({ cls := "TypoSearchModel", name := "words", desc := "()I" } : Jvm.MethodName) ({ cls := "TypoSearchModel", name := "words", desc := "()I" } : Jvm.MethodName)) ∈ lw_all := lw_g (lw_at lw_m1 218 rfl) rfl
theorem q242 : (Jvm.Cond.code ({ cls := "TypoSearchModel", name := "words", desc := "()I" } : Jvm.MethodName) prog_3_method_7_code (3 : Nat) (Option.some Jvm.ClassFile.FieldType.int)) ∈ lw_all := lw_g (lw_at lw_m1 219 rfl) rfl
theorem q244 : (Jvm.Cond.instanceMethod ({ cls := "TypoSearchModel", name := "type", desc := "(I)I" } : Jvm.MethodName)) ∈ lw_all := lw_g (lw_at lw_m1 221 rfl) rfl
theorem q245 : (Jvm.Cond.selects "TypoSearchModel" ({ cls := "TypoSearchModel", name := "type", desc := "(I)I" } : Jvm.MethodName) ({ cls := "TypoSearchModel", name := "type", desc := "(I)I" } : Jvm.MethodName)) ∈ lw_all := lw_g (lw_at lw_m1 222 rfl) rfl
theorem q246 : (Jvm.Cond.code ({ cls := "TypoSearchModel", name := "type", desc := "(I)I" } : Jvm.MethodName) prog_3_method_8_code (2 : Nat) (Option.some Jvm.ClassFile.FieldType.int)) ∈ lw_all := lw_g (lw_at lw_m1 223 rfl) rfl
theorem q247 : (Jvm.Cond.methodLink "TypoSearchModel" (33 : Nat) ({ cls := "TypoSearchModel", name := "count", desc := "()I" } : Jvm.MethodName)) ∈ lw_all := lw_g (lw_at lw_m1 224 rfl) rfl
theorem q248 : (Jvm.Cond.privateMethod ({ cls := "TypoSearchModel", name := "count", desc := "()I" } : Jvm.MethodName)) ∈ lw_tbl := lw_at lw_m1 225 rfl
theorem q249 : (Jvm.Cond.instanceMethod ({ cls := "TypoSearchModel", name := "count", desc := "()I" } : Jvm.MethodName)) ∈ lw_all := lw_g (lw_at lw_m1 226 rfl) rfl
theorem q250 : (Jvm.Cond.code ({ cls := "TypoSearchModel", name := "count", desc := "()I" } : Jvm.MethodName) prog_3_method_9_code (4 : Nat) (Option.some Jvm.ClassFile.FieldType.int)) ∈ lw_all := lw_g (lw_at lw_m1 227 rfl) rfl
theorem q251 : (Jvm.Cond.methodLink "TypoSearchModel" (37 : Nat) ({ cls := "TypoSearchModel", name := "found", desc := "()I" } : Jvm.MethodName)) ∈ lw_all := lw_g (lw_at lw_m1 228 rfl) rfl
theorem q252 : (Jvm.Cond.instanceMethod ({ cls := "TypoSearchModel", name := "found", desc := "()I" } : Jvm.MethodName)) ∈ lw_all := lw_g (lw_at lw_m1 229 rfl) rfl
theorem q253 : (Jvm.Cond.selects "TypoSearchModel" ({ cls := "TypoSearchModel", name := "found", desc := "()I" } : Jvm.MethodName) ({ cls := "TypoSearchModel", name := "found", desc := "()I" } : Jvm.MethodName)) ∈ lw_all := lw_g (lw_at lw_m1 230 rfl) rfl
theorem q254 : (Jvm.Cond.code ({ cls := "TypoSearchModel", name := "found", desc := "()I" } : Jvm.MethodName) prog_3_method_17_code (3 : Nat) (Option.some Jvm.ClassFile.FieldType.int)) ∈ lw_all := lw_g (lw_at lw_m1 231 rfl) rfl
theorem q255 : (Jvm.Cond.methodLink "TypoSearchModel" (52 : Nat) ({ cls := "TypoSearchModel", name := "isFound", desc := "(I)Z" } : Jvm.MethodName)) ∈ lw_all := lw_g (lw_at lw_m1 232 rfl) rfl
theorem q256 : (Jvm.Cond.privateMethod ({ cls := "TypoSearchModel", name := "isFound", desc := "(I)Z" } : Jvm.MethodName)) ∈ lw_tbl := lw_at lw_m1 233 rfl
theorem q257 : (Jvm.Cond.instanceMethod ({ cls := "TypoSearchModel", name := "isFound", desc := "(I)Z" } : Jvm.MethodName)) ∈ lw_all := lw_g (lw_at lw_m1 234 rfl) rfl
theorem q258 : (Jvm.Cond.code ({ cls := "TypoSearchModel", name := "isFound", desc := "(I)Z" } : Jvm.MethodName) prog_3_method_16_code (3 : Nat) (Option.some Jvm.ClassFile.FieldType.boolean)) ∈ lw_all := lw_g (lw_at lw_m1 235 rfl) rfl
theorem q259 : (Jvm.Cond.methodLink "TypoSearchModel" (48 : Nat) ({ cls := "TypoSearchModel", name := "edits", desc := "(I)I" } : Jvm.MethodName)) ∈ lw_all := lw_g (lw_at lw_m1 236 rfl) rfl
theorem q260 : (Jvm.Cond.privateMethod ({ cls := "TypoSearchModel", name := "edits", desc := "(I)I" } : Jvm.MethodName)) ∈ lw_tbl := lw_at lw_m1 237 rfl
theorem q261 : (Jvm.Cond.instanceMethod ({ cls := "TypoSearchModel", name := "edits", desc := "(I)I" } : Jvm.MethodName)) ∈ lw_all := lw_g (lw_at lw_m1 238 rfl) rfl
theorem q262 : (Jvm.Cond.code ({ cls := "TypoSearchModel", name := "edits", desc := "(I)I" } : Jvm.MethodName) prog_3_method_14_code (5 : Nat) (Option.some Jvm.ClassFile.FieldType.int)) ∈ lw_all := lw_g (lw_at lw_m1 239 rfl) rfl
theorem q263 : (Jvm.Cond.methodLink "TypoSearchModel" (44 : Nat) ({ cls := "TypoSearchModel", name := "step", desc := "(III)I" } : Jvm.MethodName)) ∈ lw_all := lw_g (lw_at lw_m2 0 rfl) rfl
theorem q264 : (Jvm.Cond.privateMethod ({ cls := "TypoSearchModel", name := "step", desc := "(III)I" } : Jvm.MethodName)) ∈ lw_tbl := lw_at lw_m2 1 rfl
theorem q265 : (Jvm.Cond.instanceMethod ({ cls := "TypoSearchModel", name := "step", desc := "(III)I" } : Jvm.MethodName)) ∈ lw_all := lw_g (lw_at lw_m2 2 rfl) rfl
theorem q266 : (Jvm.Cond.code ({ cls := "TypoSearchModel", name := "step", desc := "(III)I" } : Jvm.MethodName) prog_3_method_13_code (7 : Nat) (Option.some Jvm.ClassFile.FieldType.int)) ∈ lw_all := lw_g (lw_at lw_m2 3 rfl) rfl
theorem q267 : (Jvm.Cond.methodLink "TypoSearchModel" (40 : Nat) ({ cls := "TypoSearchModel", name := "min", desc := "(II)I" } : Jvm.MethodName)) ∈ lw_all := lw_g (lw_at lw_m2 4 rfl) rfl
theorem q268 : (Jvm.Cond.privateMethod ({ cls := "TypoSearchModel", name := "min", desc := "(II)I" } : Jvm.MethodName)) ∈ lw_tbl := lw_at lw_m2 5 rfl
theorem q269 : (Jvm.Cond.instanceMethod ({ cls := "TypoSearchModel", name := "min", desc := "(II)I" } : Jvm.MethodName)) ∈ lw_all := lw_g (lw_at lw_m2 6 rfl) rfl
theorem q270 : (Jvm.Cond.code ({ cls := "TypoSearchModel", name := "min", desc := "(II)I" } : Jvm.MethodName) prog_3_method_12_code (3 : Nat) (Option.some Jvm.ClassFile.FieldType.int)) ∈ lw_all := lw_g (lw_at lw_m2 7 rfl) rfl
theorem q272 : (Jvm.Cond.instanceMethod ({ cls := "TypoSearchModel", name := "rub", desc := "()I" } : Jvm.MethodName)) ∈ lw_all := lw_g (lw_at lw_m2 9 rfl) rfl
theorem q273 : (Jvm.Cond.selects "TypoSearchModel" ({ cls := "TypoSearchModel", name := "rub", desc := "()I" } : Jvm.MethodName) ({ cls := "TypoSearchModel", name := "rub", desc := "()I" } : Jvm.MethodName)) ∈ lw_all := lw_g (lw_at lw_m2 10 rfl) rfl
theorem q274 : (Jvm.Cond.code ({ cls := "TypoSearchModel", name := "rub", desc := "()I" } : Jvm.MethodName) prog_3_method_10_code (1 : Nat) (Option.some Jvm.ClassFile.FieldType.int)) ∈ lw_all := lw_g (lw_at lw_m2 11 rfl) rfl
theorem q276 : (Jvm.Cond.instanceMethod ({ cls := "TypoSearchModel", name := "typed", desc := "()I" } : Jvm.MethodName)) ∈ lw_all := lw_g (lw_at lw_m2 13 rfl) rfl
theorem q277 : (Jvm.Cond.selects "TypoSearchModel" ({ cls := "TypoSearchModel", name := "typed", desc := "()I" } : Jvm.MethodName) ({ cls := "TypoSearchModel", name := "typed", desc := "()I" } : Jvm.MethodName)) ∈ lw_all := lw_g (lw_at lw_m2 14 rfl) rfl
theorem q278 : (Jvm.Cond.code ({ cls := "TypoSearchModel", name := "typed", desc := "()I" } : Jvm.MethodName) prog_3_method_11_code (1 : Nat) (Option.some Jvm.ClassFile.FieldType.int)) ∈ lw_all := lw_g (lw_at lw_m2 15 rfl) rfl
theorem q280 : (Jvm.Cond.instanceMethod ({ cls := "TypoSearchModel", name := "typos", desc := "(I)I" } : Jvm.MethodName)) ∈ lw_all := lw_g (lw_at lw_m2 17 rfl) rfl
theorem q281 : (Jvm.Cond.selects "TypoSearchModel" ({ cls := "TypoSearchModel", name := "typos", desc := "(I)I" } : Jvm.MethodName) ({ cls := "TypoSearchModel", name := "typos", desc := "(I)I" } : Jvm.MethodName)) ∈ lw_all := lw_g (lw_at lw_m2 18 rfl) rfl
theorem q282 : (Jvm.Cond.code ({ cls := "TypoSearchModel", name := "typos", desc := "(I)I" } : Jvm.MethodName) prog_3_method_15_code (2 : Nat) (Option.some Jvm.ClassFile.FieldType.int)) ∈ lw_all := lw_g (lw_at lw_m2 19 rfl) rfl
theorem q285 : (Jvm.Cond.instanceMethod ({ cls := "TypoSearchModel", name := "at", desc := "(I)I" } : Jvm.MethodName)) ∈ lw_all := lw_g (lw_at lw_m2 22 rfl) rfl
theorem q286 : (Jvm.Cond.selects "TypoSearchModel" ({ cls := "TypoSearchModel", name := "at", desc := "(I)I" } : Jvm.MethodName) ({ cls := "TypoSearchModel", name := "at", desc := "(I)I" } : Jvm.MethodName)) ∈ lw_all := lw_g (lw_at lw_m2 23 rfl) rfl
theorem q287 : (Jvm.Cond.code ({ cls := "TypoSearchModel", name := "at", desc := "(I)I" } : Jvm.MethodName) prog_3_method_20_code (3 : Nat) (Option.some Jvm.ClassFile.FieldType.int)) ∈ lw_all := lw_g (lw_at lw_m2 24 rfl) rfl
theorem q288 : (Jvm.Cond.methodLink "TypoSearchModel" (58 : Nat) ({ cls := "TypoSearchModel", name := "place", desc := "(I)I" } : Jvm.MethodName)) ∈ lw_all := lw_g (lw_at lw_m2 25 rfl) rfl
theorem q289 : (Jvm.Cond.instanceMethod ({ cls := "TypoSearchModel", name := "place", desc := "(I)I" } : Jvm.MethodName)) ∈ lw_all := lw_g (lw_at lw_m2 26 rfl) rfl
theorem q290 : (Jvm.Cond.selects "TypoSearchModel" ({ cls := "TypoSearchModel", name := "place", desc := "(I)I" } : Jvm.MethodName) ({ cls := "TypoSearchModel", name := "place", desc := "(I)I" } : Jvm.MethodName)) ∈ lw_all := lw_g (lw_at lw_m2 27 rfl) rfl
theorem q291 : (Jvm.Cond.code ({ cls := "TypoSearchModel", name := "place", desc := "(I)I" } : Jvm.MethodName) prog_3_method_21_code (4 : Nat) (Option.some Jvm.ClassFile.FieldType.int)) ∈ lw_all := lw_g (lw_at lw_m2 28 rfl) rfl
theorem q292 : (Jvm.Cond.methodLink "TypoSearchModel" (61 : Nat) ({ cls := "TypoSearchModel", name := "before", desc := "(II)Z" } : Jvm.MethodName)) ∈ lw_all := lw_g (lw_at lw_m2 29 rfl) rfl
theorem q293 : (Jvm.Cond.privateMethod ({ cls := "TypoSearchModel", name := "before", desc := "(II)Z" } : Jvm.MethodName)) ∈ lw_tbl := lw_at lw_m2 30 rfl
theorem q294 : (Jvm.Cond.instanceMethod ({ cls := "TypoSearchModel", name := "before", desc := "(II)Z" } : Jvm.MethodName)) ∈ lw_all := lw_g (lw_at lw_m2 31 rfl) rfl
theorem q295 : (Jvm.Cond.code ({ cls := "TypoSearchModel", name := "before", desc := "(II)Z" } : Jvm.MethodName) prog_3_method_19_code (7 : Nat) (Option.some Jvm.ClassFile.FieldType.boolean)) ∈ lw_all := lw_g (lw_at lw_m2 32 rfl) rfl
theorem q296 : (Jvm.Cond.methodLink "TypoSearchModel" (55 : Nat) ({ cls := "TypoSearchModel", name := "exact", desc := "(I)Z" } : Jvm.MethodName)) ∈ lw_all := lw_g (lw_at lw_m2 33 rfl) rfl
theorem q297 : (Jvm.Cond.privateMethod ({ cls := "TypoSearchModel", name := "exact", desc := "(I)Z" } : Jvm.MethodName)) ∈ lw_tbl := lw_at lw_m2 34 rfl
theorem q298 : (Jvm.Cond.instanceMethod ({ cls := "TypoSearchModel", name := "exact", desc := "(I)Z" } : Jvm.MethodName)) ∈ lw_all := lw_g (lw_at lw_m2 35 rfl) rfl
theorem q299 : (Jvm.Cond.code ({ cls := "TypoSearchModel", name := "exact", desc := "(I)Z" } : Jvm.MethodName) prog_3_method_18_code (4 : Nat) (Option.some Jvm.ClassFile.FieldType.boolean)) ∈ lw_all := lw_g (lw_at lw_m2 36 rfl) rfl
theorem q302 : (Jvm.Cond.instanceMethod ({ cls := "TypoSearchModel", name := "hints", desc := "()I" } : Jvm.MethodName)) ∈ lw_all := lw_g (lw_at lw_m2 39 rfl) rfl
theorem q303 : (Jvm.Cond.selects "TypoSearchModel" ({ cls := "TypoSearchModel", name := "hints", desc := "()I" } : Jvm.MethodName) ({ cls := "TypoSearchModel", name := "hints", desc := "()I" } : Jvm.MethodName)) ∈ lw_all := lw_g (lw_at lw_m2 40 rfl) rfl
theorem q304 : (Jvm.Cond.code ({ cls := "TypoSearchModel", name := "hints", desc := "()I" } : Jvm.MethodName) prog_3_method_22_code (3 : Nat) (Option.some Jvm.ClassFile.FieldType.int)) ∈ lw_all := lw_g (lw_at lw_m2 41 rfl) rfl
theorem q305 : (Jvm.Cond.methodLink "TypoSearchModel" (65 : Nat) ({ cls := "TypoSearchModel", name := "type", desc := "(I)I" } : Jvm.MethodName)) ∈ lw_all := lw_g (lw_at lw_m2 42 rfl) rfl
theorem q306 : (Jvm.Cond.methodLink "TypoSearchModel" (68 : Nat) ({ cls := "TypoSearchModel", name := "rub", desc := "()I" } : Jvm.MethodName)) ∈ lw_all := lw_g (lw_at lw_m2 43 rfl) rfl
theorem q308 : (Jvm.Cond.instanceMethod ({ cls := "TypoSearchModel", name := "common", desc := "()I" } : Jvm.MethodName)) ∈ lw_all := lw_g (lw_at lw_m2 45 rfl) rfl
theorem q309 : (Jvm.Cond.selects "TypoSearchModel" ({ cls := "TypoSearchModel", name := "common", desc := "()I" } : Jvm.MethodName) ({ cls := "TypoSearchModel", name := "common", desc := "()I" } : Jvm.MethodName)) ∈ lw_all := lw_g (lw_at lw_m2 46 rfl) rfl
theorem q310 : (Jvm.Cond.code ({ cls := "TypoSearchModel", name := "common", desc := "()I" } : Jvm.MethodName) prog_3_method_23_code (6 : Nat) (Option.some Jvm.ClassFile.FieldType.int)) ∈ lw_all := lw_g (lw_at lw_m2 47 rfl) rfl
theorem q311 : (Jvm.Cond.methodLink "TypoSearchModel" (71 : Nat) ({ cls := "TypoSearchModel", name := "shared", desc := "(II)I" } : Jvm.MethodName)) ∈ lw_all := lw_g (lw_at lw_m2 48 rfl) rfl
theorem q312 : (Jvm.Cond.privateMethod ({ cls := "TypoSearchModel", name := "shared", desc := "(II)I" } : Jvm.MethodName)) ∈ lw_tbl := lw_at lw_m2 49 rfl
theorem q313 : (Jvm.Cond.instanceMethod ({ cls := "TypoSearchModel", name := "shared", desc := "(II)I" } : Jvm.MethodName)) ∈ lw_all := lw_g (lw_at lw_m2 50 rfl) rfl
theorem q314 : (Jvm.Cond.code ({ cls := "TypoSearchModel", name := "shared", desc := "(II)I" } : Jvm.MethodName) prog_3_method_24_code (4 : Nat) (Option.some Jvm.ClassFile.FieldType.int)) ∈ lw_all := lw_g (lw_at lw_m2 51 rfl) rfl
theorem in_X1 : ∀ w ∈ wsX10, w ∈ lw_all := lw_in wsX10 [205, 207, 209, 211, 213, 215] (by decide +kernel) (by decide +kernel)
end
section
/-! java/lang/Object -/
set_option maxRecDepth 100000
def RJ0 : String := "java/lang/Object"
abbrev cJ0_init : ByteArray := object_method_1_code
def yJ0_init : MethodName := ⟨RJ0, "<init>", "()V"⟩
theorem dJ0_init_0 : decode cJ0_init 0 = .ok (.return_, 1) := by decide +kernel
theorem q32 : (Jvm.Cond.instanceMethod ({ cls := "java/lang/Object", name := "<init>", desc := "()V" } : Jvm.MethodName)) ∈ lw_all := lw_g (lw_at lw_m1 9 rfl) rfl
theorem q33 : (Jvm.Cond.code ({ cls := "java/lang/Object", name := "<init>", desc := "()V" } : Jvm.MethodName) object_method_1_code (1 : Nat) (Option.none : Option Jvm.ClassFile.FieldType)) ∈ lw_all := lw_g (lw_at lw_m1 10 rfl) rfl

/-! the law's own entry -/
set_option maxRecDepth 100000
abbrev cL_law : ByteArray := code
theorem dL_law_0 : decode cL_law 0 = .ok (.new 7, 3) := by decide +kernel
theorem dL_law_3 : decode cL_law 3 = .ok (.dup, 1) := by decide +kernel
theorem dL_law_4 : decode cL_law 4 = .ok (.invokespecial 9, 3) := by decide +kernel
theorem dL_law_7 : decode cL_law 7 = .ok (.astore_n 1, 1) := by decide +kernel
theorem dL_law_8 : decode cL_law 8 = .ok (.new 10, 3) := by decide +kernel
theorem dL_law_11 : decode cL_law 11 = .ok (.dup, 1) := by decide +kernel
theorem dL_law_12 : decode cL_law 12 = .ok (.invokespecial 12, 3) := by decide +kernel
theorem dL_law_15 : decode cL_law 15 = .ok (.astore_n 2, 1) := by decide +kernel
theorem dL_law_16 : decode cL_law 16 = .ok (.iconst 0, 1) := by decide +kernel
theorem dL_law_17 : decode cL_law 17 = .ok (.istore_n 3, 1) := by decide +kernel
theorem dL_law_18 : decode cL_law 18 = .ok (.iload_n 3, 1) := by decide +kernel
theorem dL_law_19 : decode cL_law 19 = .ok (.aload_n 0, 1) := by decide +kernel
theorem dL_law_20 : decode cL_law 20 = .ok (.arraylength, 1) := by decide +kernel
theorem dL_law_21 : decode cL_law 21 = .ok (.iconst 3, 1) := by decide +kernel
theorem dL_law_22 : decode cL_law 22 = .ok (.isub, 1) := by decide +kernel
theorem dL_law_23 : decode cL_law 23 = .ok (.if_icmp .gt 379, 3) := by decide +kernel
theorem dL_law_26 : decode cL_law 26 = .ok (.aload_n 0, 1) := by decide +kernel
theorem dL_law_27 : decode cL_law 27 = .ok (.iload_n 3, 1) := by decide +kernel
theorem dL_law_28 : decode cL_law 28 = .ok (.iaload, 1) := by decide +kernel
theorem dL_law_29 : decode cL_law 29 = .ok (.bipush 15, 2) := by decide +kernel
theorem dL_law_31 : decode cL_law 31 = .ok (.iand, 1) := by decide +kernel
theorem dL_law_32 : decode cL_law 32 = .ok (.tableswitch 364 0 13 #[72, 105, 138, 161, 194, 207, 230, 243, 256, 279, 292, 315, 338, 351], 72) := by decide +kernel
theorem dL_law_104 : decode cL_law 104 = .ok (.aload_n 1, 1) := by decide +kernel
theorem dL_law_105 : decode cL_law 105 = .ok (.aload_n 0, 1) := by decide +kernel
theorem dL_law_106 : decode cL_law 106 = .ok (.iload_n 3, 1) := by decide +kernel
theorem dL_law_107 : decode cL_law 107 = .ok (.iconst 1, 1) := by decide +kernel
theorem dL_law_108 : decode cL_law 108 = .ok (.iadd, 1) := by decide +kernel
theorem dL_law_109 : decode cL_law 109 = .ok (.iaload, 1) := by decide +kernel
theorem dL_law_110 : decode cL_law 110 = .ok (.aload_n 0, 1) := by decide +kernel
theorem dL_law_111 : decode cL_law 111 = .ok (.iload_n 3, 1) := by decide +kernel
theorem dL_law_112 : decode cL_law 112 = .ok (.iconst 2, 1) := by decide +kernel
theorem dL_law_113 : decode cL_law 113 = .ok (.iadd, 1) := by decide +kernel
theorem dL_law_114 : decode cL_law 114 = .ok (.iaload, 1) := by decide +kernel
theorem dL_law_115 : decode cL_law 115 = .ok (.invokevirtual 13, 3) := by decide +kernel
theorem dL_law_118 : decode cL_law 118 = .ok (.aload_n 2, 1) := by decide +kernel
theorem dL_law_119 : decode cL_law 119 = .ok (.aload_n 0, 1) := by decide +kernel
theorem dL_law_120 : decode cL_law 120 = .ok (.iload_n 3, 1) := by decide +kernel
theorem dL_law_121 : decode cL_law 121 = .ok (.iconst 1, 1) := by decide +kernel
theorem dL_law_122 : decode cL_law 122 = .ok (.iadd, 1) := by decide +kernel
theorem dL_law_123 : decode cL_law 123 = .ok (.iaload, 1) := by decide +kernel
theorem dL_law_124 : decode cL_law 124 = .ok (.aload_n 0, 1) := by decide +kernel
theorem dL_law_125 : decode cL_law 125 = .ok (.iload_n 3, 1) := by decide +kernel
theorem dL_law_126 : decode cL_law 126 = .ok (.iconst 2, 1) := by decide +kernel
theorem dL_law_127 : decode cL_law 127 = .ok (.iadd, 1) := by decide +kernel
theorem dL_law_128 : decode cL_law 128 = .ok (.iaload, 1) := by decide +kernel
theorem dL_law_129 : decode cL_law 129 = .ok (.invokevirtual 17, 3) := by decide +kernel
theorem dL_law_132 : decode cL_law 132 = .ok (.if_icmp .eq 264, 3) := by decide +kernel
theorem dL_law_135 : decode cL_law 135 = .ok (.iconst 0, 1) := by decide +kernel
theorem dL_law_136 : decode cL_law 136 = .ok (.ireturn, 1) := by decide +kernel
theorem dL_law_137 : decode cL_law 137 = .ok (.aload_n 1, 1) := by decide +kernel
theorem dL_law_138 : decode cL_law 138 = .ok (.aload_n 0, 1) := by decide +kernel
theorem dL_law_139 : decode cL_law 139 = .ok (.iload_n 3, 1) := by decide +kernel
theorem dL_law_140 : decode cL_law 140 = .ok (.iconst 1, 1) := by decide +kernel
theorem dL_law_141 : decode cL_law 141 = .ok (.iadd, 1) := by decide +kernel
theorem dL_law_142 : decode cL_law 142 = .ok (.iaload, 1) := by decide +kernel
theorem dL_law_143 : decode cL_law 143 = .ok (.aload_n 0, 1) := by decide +kernel
theorem dL_law_144 : decode cL_law 144 = .ok (.iload_n 3, 1) := by decide +kernel
theorem dL_law_145 : decode cL_law 145 = .ok (.iconst 2, 1) := by decide +kernel
theorem dL_law_146 : decode cL_law 146 = .ok (.iadd, 1) := by decide +kernel
theorem dL_law_147 : decode cL_law 147 = .ok (.iaload, 1) := by decide +kernel
theorem dL_law_148 : decode cL_law 148 = .ok (.invokevirtual 18, 3) := by decide +kernel
theorem dL_law_151 : decode cL_law 151 = .ok (.aload_n 2, 1) := by decide +kernel
theorem dL_law_152 : decode cL_law 152 = .ok (.aload_n 0, 1) := by decide +kernel
theorem dL_law_153 : decode cL_law 153 = .ok (.iload_n 3, 1) := by decide +kernel
theorem dL_law_154 : decode cL_law 154 = .ok (.iconst 1, 1) := by decide +kernel
theorem dL_law_155 : decode cL_law 155 = .ok (.iadd, 1) := by decide +kernel
theorem dL_law_156 : decode cL_law 156 = .ok (.iaload, 1) := by decide +kernel
theorem dL_law_157 : decode cL_law 157 = .ok (.aload_n 0, 1) := by decide +kernel
theorem dL_law_158 : decode cL_law 158 = .ok (.iload_n 3, 1) := by decide +kernel
theorem dL_law_159 : decode cL_law 159 = .ok (.iconst 2, 1) := by decide +kernel
theorem dL_law_160 : decode cL_law 160 = .ok (.iadd, 1) := by decide +kernel
theorem dL_law_161 : decode cL_law 161 = .ok (.iaload, 1) := by decide +kernel
theorem dL_law_162 : decode cL_law 162 = .ok (.invokevirtual 22, 3) := by decide +kernel
theorem dL_law_165 : decode cL_law 165 = .ok (.if_icmp .eq 231, 3) := by decide +kernel
theorem dL_law_168 : decode cL_law 168 = .ok (.iconst 0, 1) := by decide +kernel
theorem dL_law_169 : decode cL_law 169 = .ok (.ireturn, 1) := by decide +kernel
theorem dL_law_170 : decode cL_law 170 = .ok (.aload_n 1, 1) := by decide +kernel
theorem dL_law_171 : decode cL_law 171 = .ok (.aload_n 0, 1) := by decide +kernel
theorem dL_law_172 : decode cL_law 172 = .ok (.iload_n 3, 1) := by decide +kernel
theorem dL_law_173 : decode cL_law 173 = .ok (.iconst 1, 1) := by decide +kernel
theorem dL_law_174 : decode cL_law 174 = .ok (.iadd, 1) := by decide +kernel
theorem dL_law_175 : decode cL_law 175 = .ok (.iaload, 1) := by decide +kernel
theorem dL_law_176 : decode cL_law 176 = .ok (.invokevirtual 23, 3) := by decide +kernel
theorem dL_law_179 : decode cL_law 179 = .ok (.aload_n 2, 1) := by decide +kernel
theorem dL_law_180 : decode cL_law 180 = .ok (.aload_n 0, 1) := by decide +kernel
theorem dL_law_181 : decode cL_law 181 = .ok (.iload_n 3, 1) := by decide +kernel
theorem dL_law_182 : decode cL_law 182 = .ok (.iconst 1, 1) := by decide +kernel
theorem dL_law_183 : decode cL_law 183 = .ok (.iadd, 1) := by decide +kernel
theorem dL_law_184 : decode cL_law 184 = .ok (.iaload, 1) := by decide +kernel
theorem dL_law_185 : decode cL_law 185 = .ok (.invokevirtual 27, 3) := by decide +kernel
theorem dL_law_188 : decode cL_law 188 = .ok (.if_icmp .eq 208, 3) := by decide +kernel
theorem dL_law_191 : decode cL_law 191 = .ok (.iconst 0, 1) := by decide +kernel
theorem dL_law_192 : decode cL_law 192 = .ok (.ireturn, 1) := by decide +kernel
theorem dL_law_193 : decode cL_law 193 = .ok (.aload_n 1, 1) := by decide +kernel
theorem dL_law_194 : decode cL_law 194 = .ok (.aload_n 0, 1) := by decide +kernel
theorem dL_law_195 : decode cL_law 195 = .ok (.iload_n 3, 1) := by decide +kernel
theorem dL_law_196 : decode cL_law 196 = .ok (.iconst 1, 1) := by decide +kernel
theorem dL_law_197 : decode cL_law 197 = .ok (.iadd, 1) := by decide +kernel
theorem dL_law_198 : decode cL_law 198 = .ok (.iaload, 1) := by decide +kernel
theorem dL_law_199 : decode cL_law 199 = .ok (.aload_n 0, 1) := by decide +kernel
theorem dL_law_200 : decode cL_law 200 = .ok (.iload_n 3, 1) := by decide +kernel
theorem dL_law_201 : decode cL_law 201 = .ok (.iconst 2, 1) := by decide +kernel
theorem dL_law_202 : decode cL_law 202 = .ok (.iadd, 1) := by decide +kernel
theorem dL_law_203 : decode cL_law 203 = .ok (.iaload, 1) := by decide +kernel
theorem dL_law_204 : decode cL_law 204 = .ok (.invokevirtual 28, 3) := by decide +kernel
theorem dL_law_207 : decode cL_law 207 = .ok (.aload_n 2, 1) := by decide +kernel
theorem dL_law_208 : decode cL_law 208 = .ok (.aload_n 0, 1) := by decide +kernel
theorem dL_law_209 : decode cL_law 209 = .ok (.iload_n 3, 1) := by decide +kernel
theorem dL_law_210 : decode cL_law 210 = .ok (.iconst 1, 1) := by decide +kernel
theorem dL_law_211 : decode cL_law 211 = .ok (.iadd, 1) := by decide +kernel
theorem dL_law_212 : decode cL_law 212 = .ok (.iaload, 1) := by decide +kernel
theorem dL_law_213 : decode cL_law 213 = .ok (.aload_n 0, 1) := by decide +kernel
theorem dL_law_214 : decode cL_law 214 = .ok (.iload_n 3, 1) := by decide +kernel
theorem dL_law_215 : decode cL_law 215 = .ok (.iconst 2, 1) := by decide +kernel
theorem dL_law_216 : decode cL_law 216 = .ok (.iadd, 1) := by decide +kernel
theorem dL_law_217 : decode cL_law 217 = .ok (.iaload, 1) := by decide +kernel
theorem dL_law_218 : decode cL_law 218 = .ok (.invokevirtual 31, 3) := by decide +kernel
theorem dL_law_221 : decode cL_law 221 = .ok (.if_icmp .eq 175, 3) := by decide +kernel
theorem dL_law_224 : decode cL_law 224 = .ok (.iconst 0, 1) := by decide +kernel
theorem dL_law_225 : decode cL_law 225 = .ok (.ireturn, 1) := by decide +kernel
theorem dL_law_226 : decode cL_law 226 = .ok (.aload_n 1, 1) := by decide +kernel
theorem dL_law_227 : decode cL_law 227 = .ok (.invokevirtual 32, 3) := by decide +kernel
theorem dL_law_230 : decode cL_law 230 = .ok (.aload_n 2, 1) := by decide +kernel
theorem dL_law_231 : decode cL_law 231 = .ok (.invokevirtual 36, 3) := by decide +kernel
theorem dL_law_234 : decode cL_law 234 = .ok (.if_icmp .eq 162, 3) := by decide +kernel
theorem dL_law_237 : decode cL_law 237 = .ok (.iconst 0, 1) := by decide +kernel
theorem dL_law_238 : decode cL_law 238 = .ok (.ireturn, 1) := by decide +kernel
theorem dL_law_239 : decode cL_law 239 = .ok (.aload_n 1, 1) := by decide +kernel
theorem dL_law_240 : decode cL_law 240 = .ok (.aload_n 0, 1) := by decide +kernel
theorem dL_law_241 : decode cL_law 241 = .ok (.iload_n 3, 1) := by decide +kernel
theorem dL_law_242 : decode cL_law 242 = .ok (.iconst 1, 1) := by decide +kernel
theorem dL_law_243 : decode cL_law 243 = .ok (.iadd, 1) := by decide +kernel
theorem dL_law_244 : decode cL_law 244 = .ok (.iaload, 1) := by decide +kernel
theorem dL_law_245 : decode cL_law 245 = .ok (.invokevirtual 37, 3) := by decide +kernel
theorem dL_law_248 : decode cL_law 248 = .ok (.aload_n 2, 1) := by decide +kernel
theorem dL_law_249 : decode cL_law 249 = .ok (.aload_n 0, 1) := by decide +kernel
theorem dL_law_250 : decode cL_law 250 = .ok (.iload_n 3, 1) := by decide +kernel
theorem dL_law_251 : decode cL_law 251 = .ok (.iconst 1, 1) := by decide +kernel
theorem dL_law_252 : decode cL_law 252 = .ok (.iadd, 1) := by decide +kernel
theorem dL_law_253 : decode cL_law 253 = .ok (.iaload, 1) := by decide +kernel
theorem dL_law_254 : decode cL_law 254 = .ok (.invokevirtual 41, 3) := by decide +kernel
theorem dL_law_257 : decode cL_law 257 = .ok (.if_icmp .eq 139, 3) := by decide +kernel
theorem dL_law_260 : decode cL_law 260 = .ok (.iconst 0, 1) := by decide +kernel
theorem dL_law_261 : decode cL_law 261 = .ok (.ireturn, 1) := by decide +kernel
theorem dL_law_262 : decode cL_law 262 = .ok (.aload_n 1, 1) := by decide +kernel
theorem dL_law_263 : decode cL_law 263 = .ok (.invokevirtual 42, 3) := by decide +kernel
theorem dL_law_266 : decode cL_law 266 = .ok (.aload_n 2, 1) := by decide +kernel
theorem dL_law_267 : decode cL_law 267 = .ok (.invokevirtual 45, 3) := by decide +kernel
theorem dL_law_270 : decode cL_law 270 = .ok (.if_icmp .eq 126, 3) := by decide +kernel
theorem dL_law_273 : decode cL_law 273 = .ok (.iconst 0, 1) := by decide +kernel
theorem dL_law_274 : decode cL_law 274 = .ok (.ireturn, 1) := by decide +kernel
theorem dL_law_275 : decode cL_law 275 = .ok (.aload_n 1, 1) := by decide +kernel
theorem dL_law_276 : decode cL_law 276 = .ok (.invokevirtual 46, 3) := by decide +kernel
theorem dL_law_279 : decode cL_law 279 = .ok (.aload_n 2, 1) := by decide +kernel
theorem dL_law_280 : decode cL_law 280 = .ok (.invokevirtual 49, 3) := by decide +kernel
theorem dL_law_283 : decode cL_law 283 = .ok (.if_icmp .eq 113, 3) := by decide +kernel
theorem dL_law_286 : decode cL_law 286 = .ok (.iconst 0, 1) := by decide +kernel
theorem dL_law_287 : decode cL_law 287 = .ok (.ireturn, 1) := by decide +kernel
theorem dL_law_288 : decode cL_law 288 = .ok (.aload_n 1, 1) := by decide +kernel
theorem dL_law_289 : decode cL_law 289 = .ok (.aload_n 0, 1) := by decide +kernel
theorem dL_law_290 : decode cL_law 290 = .ok (.iload_n 3, 1) := by decide +kernel
theorem dL_law_291 : decode cL_law 291 = .ok (.iconst 1, 1) := by decide +kernel
theorem dL_law_292 : decode cL_law 292 = .ok (.iadd, 1) := by decide +kernel
theorem dL_law_293 : decode cL_law 293 = .ok (.iaload, 1) := by decide +kernel
theorem dL_law_294 : decode cL_law 294 = .ok (.invokevirtual 50, 3) := by decide +kernel
theorem dL_law_297 : decode cL_law 297 = .ok (.aload_n 2, 1) := by decide +kernel
theorem dL_law_298 : decode cL_law 298 = .ok (.aload_n 0, 1) := by decide +kernel
theorem dL_law_299 : decode cL_law 299 = .ok (.iload_n 3, 1) := by decide +kernel
theorem dL_law_300 : decode cL_law 300 = .ok (.iconst 1, 1) := by decide +kernel
theorem dL_law_301 : decode cL_law 301 = .ok (.iadd, 1) := by decide +kernel
theorem dL_law_302 : decode cL_law 302 = .ok (.iaload, 1) := by decide +kernel
theorem dL_law_303 : decode cL_law 303 = .ok (.invokevirtual 53, 3) := by decide +kernel
theorem dL_law_306 : decode cL_law 306 = .ok (.if_icmp .eq 90, 3) := by decide +kernel
theorem dL_law_309 : decode cL_law 309 = .ok (.iconst 0, 1) := by decide +kernel
theorem dL_law_310 : decode cL_law 310 = .ok (.ireturn, 1) := by decide +kernel
theorem dL_law_311 : decode cL_law 311 = .ok (.aload_n 1, 1) := by decide +kernel
theorem dL_law_312 : decode cL_law 312 = .ok (.invokevirtual 54, 3) := by decide +kernel
theorem dL_law_315 : decode cL_law 315 = .ok (.aload_n 2, 1) := by decide +kernel
theorem dL_law_316 : decode cL_law 316 = .ok (.invokevirtual 57, 3) := by decide +kernel
theorem dL_law_319 : decode cL_law 319 = .ok (.if_icmp .eq 77, 3) := by decide +kernel
theorem dL_law_322 : decode cL_law 322 = .ok (.iconst 0, 1) := by decide +kernel
theorem dL_law_323 : decode cL_law 323 = .ok (.ireturn, 1) := by decide +kernel
theorem dL_law_324 : decode cL_law 324 = .ok (.aload_n 1, 1) := by decide +kernel
theorem dL_law_325 : decode cL_law 325 = .ok (.aload_n 0, 1) := by decide +kernel
theorem dL_law_326 : decode cL_law 326 = .ok (.iload_n 3, 1) := by decide +kernel
theorem dL_law_327 : decode cL_law 327 = .ok (.iconst 1, 1) := by decide +kernel
theorem dL_law_328 : decode cL_law 328 = .ok (.iadd, 1) := by decide +kernel
theorem dL_law_329 : decode cL_law 329 = .ok (.iaload, 1) := by decide +kernel
theorem dL_law_330 : decode cL_law 330 = .ok (.invokevirtual 58, 3) := by decide +kernel
theorem dL_law_333 : decode cL_law 333 = .ok (.aload_n 2, 1) := by decide +kernel
theorem dL_law_334 : decode cL_law 334 = .ok (.aload_n 0, 1) := by decide +kernel
theorem dL_law_335 : decode cL_law 335 = .ok (.iload_n 3, 1) := by decide +kernel
theorem dL_law_336 : decode cL_law 336 = .ok (.iconst 1, 1) := by decide +kernel
theorem dL_law_337 : decode cL_law 337 = .ok (.iadd, 1) := by decide +kernel
theorem dL_law_338 : decode cL_law 338 = .ok (.iaload, 1) := by decide +kernel
theorem dL_law_339 : decode cL_law 339 = .ok (.invokevirtual 61, 3) := by decide +kernel
theorem dL_law_342 : decode cL_law 342 = .ok (.if_icmp .eq 54, 3) := by decide +kernel
theorem dL_law_345 : decode cL_law 345 = .ok (.iconst 0, 1) := by decide +kernel
theorem dL_law_346 : decode cL_law 346 = .ok (.ireturn, 1) := by decide +kernel
theorem dL_law_347 : decode cL_law 347 = .ok (.aload_n 1, 1) := by decide +kernel
theorem dL_law_348 : decode cL_law 348 = .ok (.aload_n 0, 1) := by decide +kernel
theorem dL_law_349 : decode cL_law 349 = .ok (.iload_n 3, 1) := by decide +kernel
theorem dL_law_350 : decode cL_law 350 = .ok (.iconst 1, 1) := by decide +kernel
theorem dL_law_351 : decode cL_law 351 = .ok (.iadd, 1) := by decide +kernel
theorem dL_law_352 : decode cL_law 352 = .ok (.iaload, 1) := by decide +kernel
theorem dL_law_353 : decode cL_law 353 = .ok (.invokevirtual 62, 3) := by decide +kernel
theorem dL_law_356 : decode cL_law 356 = .ok (.aload_n 2, 1) := by decide +kernel
theorem dL_law_357 : decode cL_law 357 = .ok (.aload_n 0, 1) := by decide +kernel
theorem dL_law_358 : decode cL_law 358 = .ok (.iload_n 3, 1) := by decide +kernel
theorem dL_law_359 : decode cL_law 359 = .ok (.iconst 1, 1) := by decide +kernel
theorem dL_law_360 : decode cL_law 360 = .ok (.iadd, 1) := by decide +kernel
theorem dL_law_361 : decode cL_law 361 = .ok (.iaload, 1) := by decide +kernel
theorem dL_law_362 : decode cL_law 362 = .ok (.invokevirtual 65, 3) := by decide +kernel
theorem dL_law_365 : decode cL_law 365 = .ok (.if_icmp .eq 31, 3) := by decide +kernel
theorem dL_law_368 : decode cL_law 368 = .ok (.iconst 0, 1) := by decide +kernel
theorem dL_law_369 : decode cL_law 369 = .ok (.ireturn, 1) := by decide +kernel
theorem dL_law_370 : decode cL_law 370 = .ok (.aload_n 1, 1) := by decide +kernel
theorem dL_law_371 : decode cL_law 371 = .ok (.invokevirtual 66, 3) := by decide +kernel
theorem dL_law_374 : decode cL_law 374 = .ok (.aload_n 2, 1) := by decide +kernel
theorem dL_law_375 : decode cL_law 375 = .ok (.invokevirtual 69, 3) := by decide +kernel
theorem dL_law_378 : decode cL_law 378 = .ok (.if_icmp .eq 18, 3) := by decide +kernel
theorem dL_law_381 : decode cL_law 381 = .ok (.iconst 0, 1) := by decide +kernel
theorem dL_law_382 : decode cL_law 382 = .ok (.ireturn, 1) := by decide +kernel
theorem dL_law_383 : decode cL_law 383 = .ok (.aload_n 1, 1) := by decide +kernel
theorem dL_law_384 : decode cL_law 384 = .ok (.invokevirtual 70, 3) := by decide +kernel
theorem dL_law_387 : decode cL_law 387 = .ok (.aload_n 2, 1) := by decide +kernel
theorem dL_law_388 : decode cL_law 388 = .ok (.invokevirtual 73, 3) := by decide +kernel
theorem dL_law_391 : decode cL_law 391 = .ok (.if_icmp .eq 5, 3) := by decide +kernel
theorem dL_law_394 : decode cL_law 394 = .ok (.iconst 0, 1) := by decide +kernel
theorem dL_law_395 : decode cL_law 395 = .ok (.ireturn, 1) := by decide +kernel
theorem dL_law_396 : decode cL_law 396 = .ok (.iinc 3 3, 3) := by decide +kernel
theorem dL_law_399 : decode cL_law 399 = .ok (.goto (-381), 3) := by decide +kernel
theorem dL_law_402 : decode cL_law 402 = .ok (.iconst 1, 1) := by decide +kernel
theorem dL_law_403 : decode cL_law 403 = .ok (.ireturn, 1) := by decide +kernel

theorem q74 : (Jvm.Cond.arrayClass Jvm.ClassFile.FieldType.byte) ∈ lw_all := lw_g (lw_at lw_m1 51 rfl) rfl
set_option maxRecDepth 100000
theorem q218 : (Jvm.Cond.arrayClass Jvm.ClassFile.FieldType.int) ∈ lw_all := lw_g (lw_at lw_m1 195 rfl) rfl

theorem q23 : (Jvm.Cond.initialized "TypoSearchLaw") ∈ lw_all := lw_g (lw_at lw_m1 0 rfl) rfl
set_option maxRecDepth 100000
theorem q26 : (Jvm.Cond.classLink "TypoSearchLaw" (7 : Nat) "TypoSearch") ∈ lw_all := lw_g (lw_at lw_m1 3 rfl) rfl
theorem q28 : (Jvm.Cond.methodLink "TypoSearchLaw" (9 : Nat) ({ cls := "TypoSearch", name := "<init>", desc := "()V" } : Jvm.MethodName)) ∈ lw_all := lw_g (lw_at lw_m1 5 rfl) rfl
theorem q75 : (Jvm.Cond.methodLink "TypoSearchLaw" (13 : Nat) ({ cls := "TypoSearch", name := "begin", desc := "(II)I" } : Jvm.MethodName)) ∈ lw_all := lw_g (lw_at lw_m1 52 rfl) rfl
theorem q86 : (Jvm.Cond.methodLink "TypoSearchLaw" (18 : Nat) ({ cls := "TypoSearch", name := "extend", desc := "(II)Z" } : Jvm.MethodName)) ∈ lw_all := lw_g (lw_at lw_m1 63 rfl) rfl
theorem q90 : (Jvm.Cond.methodLink "TypoSearchLaw" (23 : Nat) ({ cls := "TypoSearch", name := "remove", desc := "(I)Z" } : Jvm.MethodName)) ∈ lw_all := lw_g (lw_at lw_m1 67 rfl) rfl
theorem q94 : (Jvm.Cond.methodLink "TypoSearchLaw" (28 : Nat) ({ cls := "TypoSearch", name := "weigh", desc := "(II)Z" } : Jvm.MethodName)) ∈ lw_all := lw_g (lw_at lw_m1 71 rfl) rfl
theorem q98 : (Jvm.Cond.methodLink "TypoSearchLaw" (32 : Nat) ({ cls := "TypoSearch", name := "words", desc := "()I" } : Jvm.MethodName)) ∈ lw_all := lw_g (lw_at lw_m1 75 rfl) rfl
theorem q102 : (Jvm.Cond.methodLink "TypoSearchLaw" (37 : Nat) ({ cls := "TypoSearch", name := "type", desc := "(I)I" } : Jvm.MethodName)) ∈ lw_all := lw_g (lw_at lw_m1 79 rfl) rfl
theorem q146 : (Jvm.Cond.methodLink "TypoSearchLaw" (42 : Nat) ({ cls := "TypoSearch", name := "rub", desc := "()I" } : Jvm.MethodName)) ∈ lw_all := lw_g (lw_at lw_m1 123 rfl) rfl
theorem q150 : (Jvm.Cond.methodLink "TypoSearchLaw" (46 : Nat) ({ cls := "TypoSearch", name := "typed", desc := "()I" } : Jvm.MethodName)) ∈ lw_all := lw_g (lw_at lw_m1 127 rfl) rfl
theorem q154 : (Jvm.Cond.methodLink "TypoSearchLaw" (50 : Nat) ({ cls := "TypoSearch", name := "typos", desc := "(I)I" } : Jvm.MethodName)) ∈ lw_all := lw_g (lw_at lw_m1 131 rfl) rfl
theorem q158 : (Jvm.Cond.methodLink "TypoSearchLaw" (54 : Nat) ({ cls := "TypoSearch", name := "found", desc := "()I" } : Jvm.MethodName)) ∈ lw_all := lw_g (lw_at lw_m1 135 rfl) rfl
theorem q162 : (Jvm.Cond.methodLink "TypoSearchLaw" (58 : Nat) ({ cls := "TypoSearch", name := "at", desc := "(I)I" } : Jvm.MethodName)) ∈ lw_all := lw_g (lw_at lw_m1 139 rfl) rfl
theorem q178 : (Jvm.Cond.methodLink "TypoSearchLaw" (62 : Nat) ({ cls := "TypoSearch", name := "place", desc := "(I)I" } : Jvm.MethodName)) ∈ lw_all := lw_g (lw_at lw_m1 155 rfl) rfl
theorem q179 : (Jvm.Cond.methodLink "TypoSearchLaw" (66 : Nat) ({ cls := "TypoSearch", name := "hints", desc := "()I" } : Jvm.MethodName)) ∈ lw_all := lw_g (lw_at lw_m1 156 rfl) rfl
theorem q185 : (Jvm.Cond.methodLink "TypoSearchLaw" (70 : Nat) ({ cls := "TypoSearch", name := "common", desc := "()I" } : Jvm.MethodName)) ∈ lw_all := lw_g (lw_at lw_m1 162 rfl) rfl
theorem q193 : (Jvm.Cond.classLink "TypoSearchLaw" (10 : Nat) "TypoSearchModel") ∈ lw_all := lw_g (lw_at lw_m1 170 rfl) rfl
theorem q195 : (Jvm.Cond.methodLink "TypoSearchLaw" (12 : Nat) ({ cls := "TypoSearchModel", name := "<init>", desc := "()V" } : Jvm.MethodName)) ∈ lw_all := lw_g (lw_at lw_m1 172 rfl) rfl
theorem q219 : (Jvm.Cond.methodLink "TypoSearchLaw" (17 : Nat) ({ cls := "TypoSearchModel", name := "begin", desc := "(II)I" } : Jvm.MethodName)) ∈ lw_all := lw_g (lw_at lw_m1 196 rfl) rfl
theorem q223 : (Jvm.Cond.methodLink "TypoSearchLaw" (22 : Nat) ({ cls := "TypoSearchModel", name := "extend", desc := "(II)Z" } : Jvm.MethodName)) ∈ lw_all := lw_g (lw_at lw_m1 200 rfl) rfl
theorem q231 : (Jvm.Cond.methodLink "TypoSearchLaw" (27 : Nat) ({ cls := "TypoSearchModel", name := "remove", desc := "(I)Z" } : Jvm.MethodName)) ∈ lw_all := lw_g (lw_at lw_m1 208 rfl) rfl
theorem q235 : (Jvm.Cond.methodLink "TypoSearchLaw" (31 : Nat) ({ cls := "TypoSearchModel", name := "weigh", desc := "(II)Z" } : Jvm.MethodName)) ∈ lw_all := lw_g (lw_at lw_m1 212 rfl) rfl
theorem q239 : (Jvm.Cond.methodLink "TypoSearchLaw" (36 : Nat) ({ cls := "TypoSearchModel", name := "words", desc := "()I" } : Jvm.MethodName)) ∈ lw_all := lw_g (lw_at lw_m1 216 rfl) rfl
theorem q243 : (Jvm.Cond.methodLink "TypoSearchLaw" (41 : Nat) ({ cls := "TypoSearchModel", name := "type", desc := "(I)I" } : Jvm.MethodName)) ∈ lw_all := lw_g (lw_at lw_m1 220 rfl) rfl
theorem q271 : (Jvm.Cond.methodLink "TypoSearchLaw" (45 : Nat) ({ cls := "TypoSearchModel", name := "rub", desc := "()I" } : Jvm.MethodName)) ∈ lw_all := lw_g (lw_at lw_m2 8 rfl) rfl
theorem q275 : (Jvm.Cond.methodLink "TypoSearchLaw" (49 : Nat) ({ cls := "TypoSearchModel", name := "typed", desc := "()I" } : Jvm.MethodName)) ∈ lw_all := lw_g (lw_at lw_m2 12 rfl) rfl
theorem q279 : (Jvm.Cond.methodLink "TypoSearchLaw" (53 : Nat) ({ cls := "TypoSearchModel", name := "typos", desc := "(I)I" } : Jvm.MethodName)) ∈ lw_all := lw_g (lw_at lw_m2 16 rfl) rfl
theorem q283 : (Jvm.Cond.methodLink "TypoSearchLaw" (57 : Nat) ({ cls := "TypoSearchModel", name := "found", desc := "()I" } : Jvm.MethodName)) ∈ lw_all := lw_g (lw_at lw_m2 20 rfl) rfl
theorem q284 : (Jvm.Cond.methodLink "TypoSearchLaw" (61 : Nat) ({ cls := "TypoSearchModel", name := "at", desc := "(I)I" } : Jvm.MethodName)) ∈ lw_all := lw_g (lw_at lw_m2 21 rfl) rfl
theorem q300 : (Jvm.Cond.methodLink "TypoSearchLaw" (65 : Nat) ({ cls := "TypoSearchModel", name := "place", desc := "(I)I" } : Jvm.MethodName)) ∈ lw_all := lw_g (lw_at lw_m2 37 rfl) rfl
theorem q301 : (Jvm.Cond.methodLink "TypoSearchLaw" (69 : Nat) ({ cls := "TypoSearchModel", name := "hints", desc := "()I" } : Jvm.MethodName)) ∈ lw_all := lw_g (lw_at lw_m2 38 rfl) rfl
theorem q307 : (Jvm.Cond.methodLink "TypoSearchLaw" (73 : Nat) ({ cls := "TypoSearchModel", name := "common", desc := "()I" } : Jvm.MethodName)) ∈ lw_all := lw_g (lw_at lw_m2 44 rfl) rfl
end
section
/-! rows of this claim's walks: ints that are natural numbers (nI k), arrays of such, calls, entries, returns, loops -/
set_option maxRecDepth 100000
abbrev vwCl : List vw_C := [(RX0, TX0, 13), (RX1, TX1, 6)]
def upN (f : Nat → Nat) (k v : Nat) : Nat → Nat := fun j => if j = k then v else f j
theorem upN_s (f : Nat → Nat) (k v : Nat) : upN f k v k = v := by simp [upN]
theorem upN_n {f : Nat → Nat} {k v j : Nat} (h : j ≠ k) : upN f k v j = f j := by simp [upN, h]
theorem upN_le {f : Nat → Nat} {k v b : Nat} (h : ∀ j, f j ≤ b) (hv : v ≤ b) : ∀ j, upN f k v j ≤ b := by
  intro j
  by_cases hj : j = k
  · subst hj; rw [upN_s]; exact hv
  · rw [upN_n hj]; exact h j
theorem upN_lt {f : Nat → Nat} {k v b : Nat} (h : ∀ j, f j < b) (hv : v < b) : ∀ j, upN f k v j < b := by
  intro j
  by_cases hj : j = k
  · subst hj; rw [upN_s]; exact hv
  · rw [upN_n hj]; exact h j
theorem upN_conv (f : Nat → Nat) {k : Nat} (v : Nat) (hk : k < 2 ^ 31) : upd (fun j => nI (f j)) (nI k).toNatClampNeg (nI v) = fun j => nI (upN f k v j) := by
  funext j
  simp only [upd, upN, nI_clamp hk]
  split <;> rfl
theorem nv_and (a b : Nat) : nI a &&& nI b = nI (a &&& b) := by
  apply Int32.toBitVec_inj.1
  show BitVec.ofNat 32 a &&& BitVec.ofNat 32 b = BitVec.ofNat 32 (a &&& b)
  apply BitVec.eq_of_getLsbD_eq
  intro i hi
  simp [hi]
theorem nv_or (a b : Nat) : nI a ||| nI b = nI (a ||| b) := by
  apply Int32.toBitVec_inj.1
  show BitVec.ofNat 32 a ||| BitVec.ofNat 32 b = BitVec.ofNat 32 (a ||| b)
  apply BitVec.eq_of_getLsbD_eq
  intro i hi
  simp [hi]
theorem nv_xor (a b : Nat) : nI a ^^^ nI b = nI (a ^^^ b) := by
  apply Int32.toBitVec_inj.1
  show BitVec.ofNat 32 a ^^^ BitVec.ofNat 32 b = BitVec.ofNat 32 (a ^^^ b)
  apply BitVec.eq_of_getLsbD_eq
  intro i hi
  simp [hi]
theorem nv_sl : ∀ n, n < 32 → ((nI n &&& 31).toBitVec.smod 32).toNat = n := by decide +kernel
theorem nv_shl (a : Nat) {k : Nat} (hk : k < 32) : nI a <<< (nI k &&& 31) = nI (a <<< k) := by
  apply Int32.toBitVec_inj.1
  rw [Int32.toBitVec_shiftLeft]
  show BitVec.ofNat 32 a <<< ((nI k &&& 31).toBitVec.smod 32).toNat = BitVec.ofNat 32 (a <<< k)
  rw [nv_sl k hk]
  apply BitVec.eq_of_toNat_eq
  simp [BitVec.toNat_shiftLeft, Nat.shiftLeft_eq, Nat.mod_mul_mod]
theorem nv_shr {a k : Nat} (ha : a < 2 ^ 31) (hk : k < 32) : nI a >>> (nI k &&& 31) = nI (a >>> k) := by
  rw [Nat.shiftRight_eq_div_pow]
  exact pk_shrN ha _ k (nv_sl k hk)
theorem nv_b : ∀ n, n < 128 → (nI n).toInt8.toInt32 = nI n := by decide +kernel
theorem nv_bn {n : Nat} (h : n < 128) : vp_nar .byte (nI n) = nI n := by rw [vp_nar_byte]; exact nv_b n h
theorem nv_inc (a : Nat) : nI a + Int32.ofInt 1 = nI (a + 1) := by
  have h : Int32.ofInt 1 = 1 := by decide
  rw [h]; exact nI_1 a
theorem nv_eq0 {a : Nat} (h : a < 2 ^ 31) : nI a = 0 ↔ a = 0 := by
  rw [← nI_0]; exact nI_eq h (by decide)
theorem nv_nf {x : Bool} (h : ¬ x = false) : x = true := by
  cases x with
  | false => exact absurd rfl h
  | true => rfl
theorem nv_tn (b : Bool) : nI b.toNat = 0 ↔ b = false := by cases b <;> decide
theorem nv_tn2 (a b : Bool) : nI a.toNat = nI b.toNat ↔ a = b := by cases a <;> cases b <;> decide
theorem nv_nz (b : Bool) : narrow .boolean (.int (nI b.toNat)) = .int (nI b.toNat) := by cases b <;> rfl
theorem nv_tb (x i : Nat) : (x >>> i &&& 1 = 0) ↔ x.testBit i = false := by
  rw [Nat.testBit, Nat.and_comm]; simp
theorem nv_tb1 (x i : Nat) : x >>> i &&& 1 = (x.testBit i).toNat := by
  rw [Nat.testBit, Nat.and_comm, Nat.one_and_eq_mod_two]
  rcases Nat.mod_two_eq_zero_or_one (x >>> i) with h | h <;> rw [h] <;> rfl
section NV
variable {p : Program} {l : Launch} {e : Env} {R : Room} {s : State} {m : MethodId} {args : Array Value} {below : List Frame} {meth : Method} {c : Code} {H H0 : Heap} {locs : List Loc} {cells slots : Nat} {Q : State → Prop}
variable {cc : ByteArray} {pc nL : Nat} {ls : Array Slot} {rest : List Value} {own : String}
variable {D : va_G} {cl : List vw_C} {A : Nat → Prop} {a : Nat} {tys : List (ClassId × FieldType)} {ws : va_W}
theorem nv_iadd {x y : Nat} (hx : p.tables.exec = Jvm.exec) (hb : c.code = cc) (d : decode cc pc = .ok (.iadd, 1)) (k : W p l e R s m args below meth c H locs cells slots Q (F0 m (pc + 1) ls (.int (nI (x + y)) :: rest))) : W p l e R s m args below meth c H locs cells slots Q (F0 m pc ls (.int (nI y) :: .int (nI x) :: rest)) := lv_iadd hx hb d (by rw [nI_add]; exact k)
theorem nv_isub {x y : Nat} (hx : p.tables.exec = Jvm.exec) (hb : c.code = cc) (h : y ≤ x) (d : decode cc pc = .ok (.isub, 1)) (k : W p l e R s m args below meth c H locs cells slots Q (F0 m (pc + 1) ls (.int (nI (x - y)) :: rest))) : W p l e R s m args below meth c H locs cells slots Q (F0 m pc ls (.int (nI y) :: .int (nI x) :: rest)) := lv_isub hx hb d (by rw [pk_sub h]; exact k)
theorem nv_imul {x y : Nat} (hx : p.tables.exec = Jvm.exec) (hb : c.code = cc) (d : decode cc pc = .ok (.imul, 1)) (k : W p l e R s m args below meth c H locs cells slots Q (F0 m (pc + 1) ls (.int (nI (x * y)) :: rest))) : W p l e R s m args below meth c H locs cells slots Q (F0 m pc ls (.int (nI y) :: .int (nI x) :: rest)) := lv_imul hx hb d (by rw [pk_mul]; exact k)
theorem nv_iand {x y : Nat} (hx : p.tables.exec = Jvm.exec) (hb : c.code = cc) (d : decode cc pc = .ok (.iand, 1)) (k : W p l e R s m args below meth c H locs cells slots Q (F0 m (pc + 1) ls (.int (nI (x &&& y)) :: rest))) : W p l e R s m args below meth c H locs cells slots Q (F0 m pc ls (.int (nI y) :: .int (nI x) :: rest)) := lv_iand hx hb d (by rw [nv_and]; exact k)
theorem nv_ior {x y : Nat} (hx : p.tables.exec = Jvm.exec) (hb : c.code = cc) (d : decode cc pc = .ok (.ior, 1)) (k : W p l e R s m args below meth c H locs cells slots Q (F0 m (pc + 1) ls (.int (nI (x ||| y)) :: rest))) : W p l e R s m args below meth c H locs cells slots Q (F0 m pc ls (.int (nI y) :: .int (nI x) :: rest)) := lv_ior hx hb d (by rw [nv_or]; exact k)
theorem nv_ixor {x y : Nat} (hx : p.tables.exec = Jvm.exec) (hb : c.code = cc) (d : decode cc pc = .ok (.ixor, 1)) (k : W p l e R s m args below meth c H locs cells slots Q (F0 m (pc + 1) ls (.int (nI (x ^^^ y)) :: rest))) : W p l e R s m args below meth c H locs cells slots Q (F0 m pc ls (.int (nI y) :: .int (nI x) :: rest)) := lv_ixor hx hb d (by rw [nv_xor]; exact k)
theorem nv_ishl {x y : Nat} (hx : p.tables.exec = Jvm.exec) (hb : c.code = cc) (h : y < 32) (d : decode cc pc = .ok (.ishl, 1)) (k : W p l e R s m args below meth c H locs cells slots Q (F0 m (pc + 1) ls (.int (nI (x <<< y)) :: rest))) : W p l e R s m args below meth c H locs cells slots Q (F0 m pc ls (.int (nI y) :: .int (nI x) :: rest)) := lv_ishl hx hb d (by rw [nv_shl x h]; exact k)
theorem nv_ishr {x y : Nat} (hx : p.tables.exec = Jvm.exec) (hb : c.code = cc) (h0 : x < 2 ^ 31) (h : y < 32) (d : decode cc pc = .ok (.ishr, 1)) (k : W p l e R s m args below meth c H locs cells slots Q (F0 m (pc + 1) ls (.int (nI (x >>> y)) :: rest))) : W p l e R s m args below meth c H locs cells slots Q (F0 m pc ls (.int (nI y) :: .int (nI x) :: rest)) := lv_ishr hx hb d (by rw [nv_shr h0 h]; exact k)
theorem nv_cge {x y : Nat} {off : Int} {tgt : Nat} (hx : p.tables.exec = Jvm.exec) (hb : c.code = cc) (d : decode cc pc = .ok (.if_icmp .ge off, 3)) (ht : (pc : Int) + off = (tgt : Int)) (h1 : x < 2 ^ 31) (h2 : y < 2 ^ 31) (kt : y ≤ x → W p l e R s m args below meth c H locs cells slots Q (F0 m tgt ls rest)) (kf : x < y → W p l e R s m args below meth c H locs cells slots Q (F0 m (pc + 3) ls rest)) : W p l e R s m args below meth c H locs cells slots Q (F0 m pc ls (.int (nI y) :: .int (nI x) :: rest)) := lv_icmp_ge hx hb d ht (fun h => kt ((nI_leI h2 h1).mp h)) (fun h => kf (Nat.lt_of_not_le (fun z => h ((nI_leI h2 h1).mpr z))))
theorem nv_cle {x y : Nat} {off : Int} {tgt : Nat} (hx : p.tables.exec = Jvm.exec) (hb : c.code = cc) (d : decode cc pc = .ok (.if_icmp .le off, 3)) (ht : (pc : Int) + off = (tgt : Int)) (h1 : x < 2 ^ 31) (h2 : y < 2 ^ 31) (kt : x ≤ y → W p l e R s m args below meth c H locs cells slots Q (F0 m tgt ls rest)) (kf : y < x → W p l e R s m args below meth c H locs cells slots Q (F0 m (pc + 3) ls rest)) : W p l e R s m args below meth c H locs cells slots Q (F0 m pc ls (.int (nI y) :: .int (nI x) :: rest)) := lv_icmp_le hx hb d ht (fun h => kt ((nI_leI h1 h2).mp h)) (fun h => kf (Nat.lt_of_not_le (fun z => h ((nI_leI h1 h2).mpr z))))
theorem nv_clt {x y : Nat} {off : Int} {tgt : Nat} (hx : p.tables.exec = Jvm.exec) (hb : c.code = cc) (d : decode cc pc = .ok (.if_icmp .lt off, 3)) (ht : (pc : Int) + off = (tgt : Int)) (h1 : x < 2 ^ 31) (h2 : y < 2 ^ 31) (kt : x < y → W p l e R s m args below meth c H locs cells slots Q (F0 m tgt ls rest)) (kf : y ≤ x → W p l e R s m args below meth c H locs cells slots Q (F0 m (pc + 3) ls rest)) : W p l e R s m args below meth c H locs cells slots Q (F0 m pc ls (.int (nI y) :: .int (nI x) :: rest)) := lv_icmp_lt hx hb d ht (fun h => kt ((nI_ltI h1 h2).mp h)) (fun h => kf (Nat.le_of_not_lt (fun z => h ((nI_ltI h1 h2).mpr z))))
theorem nv_cgt {x y : Nat} {off : Int} {tgt : Nat} (hx : p.tables.exec = Jvm.exec) (hb : c.code = cc) (d : decode cc pc = .ok (.if_icmp .gt off, 3)) (ht : (pc : Int) + off = (tgt : Int)) (h1 : x < 2 ^ 31) (h2 : y < 2 ^ 31) (kt : y < x → W p l e R s m args below meth c H locs cells slots Q (F0 m tgt ls rest)) (kf : x ≤ y → W p l e R s m args below meth c H locs cells slots Q (F0 m (pc + 3) ls rest)) : W p l e R s m args below meth c H locs cells slots Q (F0 m pc ls (.int (nI y) :: .int (nI x) :: rest)) := lv_icmp_gt hx hb d ht (fun h => kt ((nI_ltI h2 h1).mp h)) (fun h => kf (Nat.le_of_not_lt (fun z => h ((nI_ltI h2 h1).mpr z))))
theorem nv_ceq {x y : Nat} {off : Int} {tgt : Nat} (hx : p.tables.exec = Jvm.exec) (hb : c.code = cc) (d : decode cc pc = .ok (.if_icmp .eq off, 3)) (ht : (pc : Int) + off = (tgt : Int)) (h1 : x < 2 ^ 31) (h2 : y < 2 ^ 31) (kt : x = y → W p l e R s m args below meth c H locs cells slots Q (F0 m tgt ls rest)) (kf : x ≠ y → W p l e R s m args below meth c H locs cells slots Q (F0 m (pc + 3) ls rest)) : W p l e R s m args below meth c H locs cells slots Q (F0 m pc ls (.int (nI y) :: .int (nI x) :: rest)) := lv_icmp_eq hx hb d ht (fun h => kt ((nI_eq h1 h2).mp h)) (fun h => kf (fun z => h ((nI_eq h1 h2).mpr z)))
theorem nv_cne {x y : Nat} {off : Int} {tgt : Nat} (hx : p.tables.exec = Jvm.exec) (hb : c.code = cc) (d : decode cc pc = .ok (.if_icmp .ne off, 3)) (ht : (pc : Int) + off = (tgt : Int)) (h1 : x < 2 ^ 31) (h2 : y < 2 ^ 31) (kt : x ≠ y → W p l e R s m args below meth c H locs cells slots Q (F0 m tgt ls rest)) (kf : x = y → W p l e R s m args below meth c H locs cells slots Q (F0 m (pc + 3) ls rest)) : W p l e R s m args below meth c H locs cells slots Q (F0 m pc ls (.int (nI y) :: .int (nI x) :: rest)) := lv_icmp_ne hx hb d ht (fun h => kt (fun z => h ((nI_eq h1 h2).mpr z))) (fun h => kf ((nI_eq h1 h2).mp h))
theorem nv_zeq {x : Nat} {off : Int} {tgt : Nat} (hx : p.tables.exec = Jvm.exec) (hb : c.code = cc) (d : decode cc pc = .ok (.ifCond .eq off, 3)) (ht : (pc : Int) + off = (tgt : Int)) (h1 : x < 2 ^ 31) (kt : x = 0 → W p l e R s m args below meth c H locs cells slots Q (F0 m tgt ls rest)) (kf : x ≠ 0 → W p l e R s m args below meth c H locs cells slots Q (F0 m (pc + 3) ls rest)) : W p l e R s m args below meth c H locs cells slots Q (F0 m pc ls (.int (nI x) :: rest)) := lv_if_eq hx hb d ht (fun h => kt ((nv_eq0 h1).mp h)) (fun h => kf (fun q => h ((nv_eq0 h1).mpr q)))
theorem nv_zne {x : Nat} {off : Int} {tgt : Nat} (hx : p.tables.exec = Jvm.exec) (hb : c.code = cc) (d : decode cc pc = .ok (.ifCond .ne off, 3)) (ht : (pc : Int) + off = (tgt : Int)) (h1 : x < 2 ^ 31) (kt : x ≠ 0 → W p l e R s m args below meth c H locs cells slots Q (F0 m tgt ls rest)) (kf : x = 0 → W p l e R s m args below meth c H locs cells slots Q (F0 m (pc + 3) ls rest)) : W p l e R s m args below meth c H locs cells slots Q (F0 m pc ls (.int (nI x) :: rest)) := lv_if_ne hx hb d ht (fun h => kt (fun q => h ((nv_eq0 h1).mpr q))) (fun h => kf ((nv_eq0 h1).mp h))
theorem nv_zle {x : Nat} {off : Int} {tgt : Nat} (hx : p.tables.exec = Jvm.exec) (hb : c.code = cc) (d : decode cc pc = .ok (.ifCond .le off, 3)) (ht : (pc : Int) + off = (tgt : Int)) (h1 : x < 2 ^ 31) (kt : x = 0 → W p l e R s m args below meth c H locs cells slots Q (F0 m tgt ls rest)) (kf : 0 < x → W p l e R s m args below meth c H locs cells slots Q (F0 m (pc + 3) ls rest)) : W p l e R s m args below meth c H locs cells slots Q (F0 m pc ls (.int (nI x) :: rest)) := lv_if_le hx hb d ht (fun h => kt (Nat.eq_zero_of_not_pos (fun q => nI_nle q h1 h))) (fun h => kf (Nat.pos_of_ne_zero (fun q => h (by rw [q, nI_0]; decide))))
theorem nv_beq {b : Bool} {off : Int} {tgt : Nat} (hx : p.tables.exec = Jvm.exec) (hb : c.code = cc) (d : decode cc pc = .ok (.ifCond .eq off, 3)) (ht : (pc : Int) + off = (tgt : Int)) (kt : b = false → W p l e R s m args below meth c H locs cells slots Q (F0 m tgt ls rest)) (kf : b = true → W p l e R s m args below meth c H locs cells slots Q (F0 m (pc + 3) ls rest)) : W p l e R s m args below meth c H locs cells slots Q (F0 m pc ls (.int (nI b.toNat) :: rest)) := lv_if_eq hx hb d ht (fun h => kt ((nv_tn b).mp h)) (fun h => kf (nv_nf (fun q => h ((nv_tn b).mpr q))))
theorem nv_bne {b : Bool} {off : Int} {tgt : Nat} (hx : p.tables.exec = Jvm.exec) (hb : c.code = cc) (d : decode cc pc = .ok (.ifCond .ne off, 3)) (ht : (pc : Int) + off = (tgt : Int)) (kt : b = true → W p l e R s m args below meth c H locs cells slots Q (F0 m tgt ls rest)) (kf : b = false → W p l e R s m args below meth c H locs cells slots Q (F0 m (pc + 3) ls rest)) : W p l e R s m args below meth c H locs cells slots Q (F0 m pc ls (.int (nI b.toNat) :: rest)) := lv_if_ne hx hb d ht (fun h => kt (nv_nf (fun q => h ((nv_tn b).mpr q)))) (fun h => kf ((nv_tn b).mp h))
theorem nv_bceq {x y : Bool} {off : Int} {tgt : Nat} (hx : p.tables.exec = Jvm.exec) (hb : c.code = cc) (d : decode cc pc = .ok (.if_icmp .eq off, 3)) (ht : (pc : Int) + off = (tgt : Int)) (kt : x = y → W p l e R s m args below meth c H locs cells slots Q (F0 m tgt ls rest)) (kf : x ≠ y → W p l e R s m args below meth c H locs cells slots Q (F0 m (pc + 3) ls rest)) : W p l e R s m args below meth c H locs cells slots Q (F0 m pc ls (.int (nI y.toNat) :: .int (nI x.toNat) :: rest)) := lv_icmp_eq hx hb d ht (fun h => kt ((nv_tn2 x y).mp h)) (fun h => kf (fun q => h ((nv_tn2 x y).mpr q)))
theorem nv_bald (hx : p.tables.exec = Jvm.exec) (hb : c.code = cc) (hK : va_K D cl tys s) (hP : va_P D cl ws H) (q0 t0 : Nat) {cA : ClassId} {n i : Nat} {f : Nat → Nat} (ha : ws[q0]? = some (a, .inl (cA, n, .inl (fun j => nI (f j))))) (ht : tys[t0]? = some (cA, .byte)) (hi : i < n) (hn : n < 2 ^ 31) (d : decode cc pc = .ok (.baload, 1))
    (kk : W p l e R s m args below meth c H locs cells slots Q (F0 m (pc + 1) ls (.int (nI (f i)) :: rest))) : W p l e R s m args below meth c H locs cells slots Q (F0 m pc ls (.int (nI i) :: .ref a :: rest)) := by
  refine va_bald hx hb hK hP q0 t0 ha ht (vp_in_nI hi hn) d ?_
  rw [nI_clamp (Nat.lt_trans hi hn)]
  exact kk
theorem nv_iald (hx : p.tables.exec = Jvm.exec) (hb : c.code = cc) (hK : va_K D cl tys s) (hP : va_P D cl ws H) (q0 t0 : Nat) {cA : ClassId} {n i : Nat} {f : Nat → Nat} (ha : ws[q0]? = some (a, .inl (cA, n, .inl (fun j => nI (f j))))) (ht : tys[t0]? = some (cA, .int)) (hi : i < n) (hn : n < 2 ^ 31) (d : decode cc pc = .ok (.iaload, 1))
    (kk : W p l e R s m args below meth c H locs cells slots Q (F0 m (pc + 1) ls (.int (nI (f i)) :: rest))) : W p l e R s m args below meth c H locs cells slots Q (F0 m pc ls (.int (nI i) :: .ref a :: rest)) := by
  refine va_iald hx hb hK hP q0 t0 ha ht (vp_in_nI hi hn) d ?_
  rw [nI_clamp (Nat.lt_trans hi hn)]
  exact kk
theorem nv_bast (hx : p.tables.exec = Jvm.exec) (hb : c.code = cc) (hK : va_K D cl tys s) (hP : va_P D cl ws H) (hD : va_D A ws) (hS : va_S A H0 H locs) (q0 t0 : Nat) {cA : ClassId} {n i v : Nat} {f : Nat → Nat} (ha : ws[q0]? = some (a, .inl (cA, n, .inl (fun j => nI (f j))))) (ht : tys[t0]? = some (cA, .byte)) (hi : i < n) (hn : n < 2 ^ 31) (hv : v < 128) (d : decode cc pc = .ok (.bastore, 1))
    (kk : ∀ (H1 : Heap) (locs1 : List Loc), va_P D cl (ws.set q0 (a, .inl (cA, n, .inl (fun j => nI (upN f i v j))))) H1 → va_D A (ws.set q0 (a, .inl (cA, n, .inl (fun j => nI (upN f i v j))))) → va_S A H0 H1 locs1 → W p l e R s m args below meth c H1 locs1 cells slots Q (F0 m (pc + 1) ls rest)) : W p l e R s m args below meth c H locs cells slots Q (F0 m pc ls (.int (nI v) :: .int (nI i) :: .ref a :: rest)) := by
  refine va_bast hx hb hK hP hD hS q0 t0 ha ht (vp_in_nI hi hn) d (fun H1 locs1 hP hD hS => ?_)
  rw [nv_bn hv, upN_conv f v (Nat.lt_trans hi hn)] at hP hD
  exact kk H1 locs1 hP hD hS
theorem nv_iast (hx : p.tables.exec = Jvm.exec) (hb : c.code = cc) (hK : va_K D cl tys s) (hP : va_P D cl ws H) (hD : va_D A ws) (hS : va_S A H0 H locs) (q0 t0 : Nat) {cA : ClassId} {n i v : Nat} {f : Nat → Nat} (ha : ws[q0]? = some (a, .inl (cA, n, .inl (fun j => nI (f j))))) (ht : tys[t0]? = some (cA, .int)) (hi : i < n) (hn : n < 2 ^ 31) (d : decode cc pc = .ok (.iastore, 1))
    (kk : ∀ (H1 : Heap) (locs1 : List Loc), va_P D cl (ws.set q0 (a, .inl (cA, n, .inl (fun j => nI (upN f i v j))))) H1 → va_D A (ws.set q0 (a, .inl (cA, n, .inl (fun j => nI (upN f i v j))))) → va_S A H0 H1 locs1 → W p l e R s m args below meth c H1 locs1 cells slots Q (F0 m (pc + 1) ls rest)) : W p l e R s m args below meth c H locs cells slots Q (F0 m pc ls (.int (nI v) :: .int (nI i) :: .ref a :: rest)) := by
  refine va_iast hx hb hK hP hD hS q0 t0 ha ht (vp_in_nI hi hn) d (fun H1 locs1 hP hD hS => ?_)
  rw [upN_conv f v (Nat.lt_trans hi hn)] at hP hD
  exact kk H1 locs1 hP hD hS
theorem gx (F : CallFix p m c cc nL s args lw_all RX0) {fs : List Value} {v : Value} {idx : Nat} (hK : va_K D vwCl tys s) (hP : va_P D vwCl ws H) (he : ws[0]? = some (a, .inr (0, fs))) (k : Nat) (hk : k < 13) (q : Cond.fieldLink RX0 idx (TX0 k).1 (TX0 k).2.1 (TX0 k).2.2.1 ∈ lw_all) (hv : fs[k]? = some v) (d : decode cc pc = .ok (.getfield idx, 3))
    (kk : W p l e R s m args below meth c H locs cells slots Q (F0 m (pc + 3) ls (v :: rest))) : W p l e R s m args below meth c H locs cells slots Q (F0 m pc ls (.ref a :: rest)) :=
  va_get (D := D) (ci := 0) (v := v) (C := RX0) (T := TX0) (N := 13) F.1 F.2.1 F.2.2.2.2 in_X0 F.2.2.2.1 hK hP 0 he rfl k hk (F.2.2.2.2 _ q) (fun _ h9 => h9) hv d kk
theorem px (F : CallFix p m c cc nL s args lw_all RX0) {fs : List Value} {v : Value} {idx : Nat} {ty : FieldType} (hK : va_K D vwCl tys s) (hP : va_P D vwCl ws H) (hD : va_D A ws) (hS : va_S A H0 H locs) (he : ws[0]? = some (a, .inr (0, fs))) (k : Nat) (hk : k < 13) (q : Cond.fieldLink RX0 idx (TX0 k).1 (TX0 k).2.1 (TX0 k).2.2.1 ∈ lw_all) (hfin : (TX0 k).2.2.2 = false) (hd : parseFieldDescriptor (TX0 k).2.2.1 = some ty) (hn : narrow ty v = v) (hfit : fits ty v = true) (hl : k < fs.length) (d : decode cc pc = .ok (.putfield idx, 3))
    (kk : ∀ (H1 : Heap) (locs1 : List Loc), va_P D vwCl (ws.set 0 (a, .inr (0, fs.set k v))) H1 → va_D A (ws.set 0 (a, .inr (0, fs.set k v))) → va_S A H0 H1 locs1 → W p l e R s m args below meth c H1 locs1 cells slots Q (F0 m (pc + 3) ls rest)) : W p l e R s m args below meth c H locs cells slots Q (F0 m pc ls (v :: .ref a :: rest)) :=
  va_put (D := D) (ci := 0) (v := v) (ty := ty) (C := RX0) (T := TX0) (N := 13) F.1 F.2.1 F.2.2.2.2 in_X0 tyX0 tyX0_ok nmX0 F.2.2.2.1 hK hP hD hS 0 he rfl k hk (F.2.2.2.2 _ q) (fun _ h9 => h9) hfin hd hn hfit hl d kk
theorem gm (F : CallFix p m c cc nL s args lw_all RX1) {fs : List Value} {v : Value} {idx : Nat} (hK : va_K D vwCl tys s) (hP : va_P D vwCl ws H) (he : ws[0]? = some (a, .inr (1, fs))) (k : Nat) (hk : k < 6) (q : Cond.fieldLink RX1 idx (TX1 k).1 (TX1 k).2.1 (TX1 k).2.2.1 ∈ lw_all) (hv : fs[k]? = some v) (d : decode cc pc = .ok (.getfield idx, 3))
    (kk : W p l e R s m args below meth c H locs cells slots Q (F0 m (pc + 3) ls (v :: rest))) : W p l e R s m args below meth c H locs cells slots Q (F0 m pc ls (.ref a :: rest)) :=
  va_get (D := D) (ci := 1) (v := v) (C := RX1) (T := TX1) (N := 6) F.1 F.2.1 F.2.2.2.2 in_X1 F.2.2.2.1 hK hP 0 he rfl k hk (F.2.2.2.2 _ q) (fun _ h9 => h9) hv d kk
theorem pm (F : CallFix p m c cc nL s args lw_all RX1) {fs : List Value} {v : Value} {idx : Nat} {ty : FieldType} (hK : va_K D vwCl tys s) (hP : va_P D vwCl ws H) (hD : va_D A ws) (hS : va_S A H0 H locs) (he : ws[0]? = some (a, .inr (1, fs))) (k : Nat) (hk : k < 6) (q : Cond.fieldLink RX1 idx (TX1 k).1 (TX1 k).2.1 (TX1 k).2.2.1 ∈ lw_all) (hfin : (TX1 k).2.2.2 = false) (hd : parseFieldDescriptor (TX1 k).2.2.1 = some ty) (hn : narrow ty v = v) (hfit : fits ty v = true) (hl : k < fs.length) (d : decode cc pc = .ok (.putfield idx, 3))
    (kk : ∀ (H1 : Heap) (locs1 : List Loc), va_P D vwCl (ws.set 0 (a, .inr (1, fs.set k v))) H1 → va_D A (ws.set 0 (a, .inr (1, fs.set k v))) → va_S A H0 H1 locs1 → W p l e R s m args below meth c H1 locs1 cells slots Q (F0 m (pc + 3) ls rest)) : W p l e R s m args below meth c H locs cells slots Q (F0 m pc ls (v :: .ref a :: rest)) :=
  va_put (D := D) (ci := 1) (v := v) (ty := ty) (C := RX1) (T := TX1) (N := 6) F.1 F.2.1 F.2.2.2.2 in_X1 tyX1 tyX1_ok nmX1 F.2.2.2.1 hK hP hD hS 0 he rfl k hk (F.2.2.2.2 _ q) (fun _ h9 => h9) hfin hd hn hfit hl d kk
/-- a call of a method that only reads -/
theorem nc_ro {w : va_W} {y : MethodName} {bts : ByteArray} {L idx n q0 ci : Nat} {ty : FieldType} {rm : Room} {post : Int32 → Prop} {As : List Value} {b0 : Nat} {C : String} {qc : vw_C} {fs st : List Value} {lv : List (Nat × Value)} {tysc : List (ClassId × FieldType)} (F : CallFix p m c cc nL s args lw_all own)
    (hM : Met l y (ws_ y bts L (some ty)) rm (va_Pc (.ref b0 :: As) (fun U => va_P D cl w U.heap ∧ va_K D cl tysc U)) (vp_Si post) 0 0 (fun _ => False)) (q : GoodIn lw_all (wsV own idx C y (ws_ y bts L (some ty)))) (hrm : rm.cells = 0 ∧ rm.slots = 0) (hd : y.cls = C ∧ y.cls ≠ "java/lang/invoke/MethodHandle" ∧ y.cls ≠ "java/lang/invoke/VarHandle" ∧ (parseMethodDescriptor y.desc).map (fun d => d.parameters.length) = some n) (hR : rm.frames + 1 ≤ R.frames ∧ 8 + (L + 11) + rm.locals ≤ R.locals)
    (hK : va_K D cl tysc s) (hP : va_P D cl w H) (hc : cl[ci]? = some qc) (hqc : qc.1 = C) (he : w[q0]? = some (b0, .inr (ci, fs))) (hn : As.length = n) (hl : lv_has ls nL lv) (hst : st = As.reverse ++ .ref b0 :: rest) (hroom : (rest.map fun v => v.category).sum ≤ 8) (d : decode cc pc = .ok (.invokevirtual idx, 3)) (hf : cells ≤ R.cells ∧ slots ≤ R.slots)
    (kk : ∀ r : Int32, post r → W p l e R s m args below meth c H locs cells slots Q (F0 m (pc + 3) ls (.int r :: rest))) : W p l e R s m args below meth c H locs cells slots Q (F0 m pc ls st) := by
  subst hqc
  exact vp_callSi (W.runV F hM (cwV n F.2.2.2.2 q rfl hrm.1 hrm.2 hd hR) ⟨fun a U g mk q => ⟨q.1, q.2.1, va_K.moved (u := U) (U := U.calling g mk a) (Vm.Alike.refl U.vm) q.2.2⟩, va_recv hK hP hc he, fun U hU hW => ⟨rfl, by rw [hU]; exact hP, va_K.moved hW.alike hK⟩⟩ rfl hn hl.1 hst (lv_room hroom) d hf) kk
/-- a call of a static method that reads nothing -/
theorem nc_st {y : MethodName} {bts : ByteArray} {L idx n : Nat} {ty : FieldType} {rm : Room} {post : Int32 → Prop} {As : List Value} {st : List Value} {lv : List (Nat × Value)} (F : CallFix p m c cc nL s args lw_all own)
    (hM : Met l y (ws_ y bts L (some ty)) rm (va_Pc As (fun _ => True)) (vp_Si post) 0 0 (fun _ => False)) (q : GoodIn lw_all (va_wsS own idx y (ws_ y bts L (some ty)))) (hrm : rm.cells = 0 ∧ rm.slots = 0) (hd : y.cls ≠ "java/lang/invoke/MethodHandle" ∧ y.cls ≠ "java/lang/invoke/VarHandle" ∧ (parseMethodDescriptor y.desc).map (fun d => d.parameters.length) = some n) (hR : rm.frames + 1 ≤ R.frames ∧ 8 + (L + 11) + rm.locals ≤ R.locals)
    (hn : As.length = n) (hl : lv_has ls nL lv) (hst : st = As.reverse ++ rest) (hroom : (rest.map fun v => v.category).sum ≤ 8) (d : decode cc pc = .ok (.invokestatic idx, 3)) (hf : cells ≤ R.cells ∧ slots ≤ R.slots)
    (kk : ∀ r : Int32, post r → W p l e R s m args below meth c H locs cells slots Q (F0 m (pc + 3) ls (.int r :: rest))) : W p l e R s m args below meth c H locs cells slots Q (F0 m pc ls st) :=
  vp_callSi (W.runS F hM (va_cwS n F.2.2.2.2 q rfl hrm.1 hrm.2 hd hR) ⟨fun a U g mk q => ⟨q.1, trivial⟩, fun U hU hW => ⟨rfl, trivial⟩⟩ rfl hn hl.1 hst (lv_room hroom) d hf) kk
abbrev QI (D : va_G) (tys : List (ClassId × FieldType)) {S : Type} (post : Int32 → S → Prop) (f : S → va_W) (A : Nat → Prop) : Array Value → State → Outcome → State → Prop := va_Qi post (fun u t => va_P D vwCl (f u) t.heap ∧ va_K D vwCl tys t ∧ va_D A (f u)) A
abbrev QV (D : va_G) (tys : List (ClassId × FieldType)) {S : Type} (post : S → Prop) (f : S → va_W) (A : Nat → Prop) : Array Value → State → Outcome → State → Prop := va_Qv post (fun u t => va_P D vwCl (f u) t.heap ∧ va_K D vwCl tys t ∧ va_D A (f u)) A
abbrev PW (D : va_G) (tys : List (ClassId × FieldType)) (w : va_W) (av : List Value) (sz : Nat) : Array Value → State → Prop := va_Pc av (fun U => U.heap.size = sz ∧ va_P D vwCl w U.heap ∧ va_K D vwCl tys U ∧ va_D (fun _ => True) w)
abbrev PR (D : va_G) (tys : List (ClassId × FieldType)) (w : va_W) (av : List Value) : Array Value → State → Prop := va_Pc av (fun U => va_P D vwCl w U.heap ∧ va_K D vwCl tys U)
abbrev rmN (f lo : Nat) : Room := { frames := f, cells := 0, slots := 0, locals := lo }
/-- a call of a method that writes its own cells -/
theorem nc_wi {S : Type} {post : Int32 → S → Prop} {f : S → va_W} {w wr : va_W} {y : MethodName} {bts : ByteArray} {L idx n q0 ci : Nat} {ty : FieldType} {rm : Room} {As : List Value} {b0 : Nat} {C : String} {qc : vw_C} {fs st : List Value} {lv : List (Nat × Value)} {tysc : List (ClassId × FieldType)} (F : CallFix p m c cc nL s args lw_all own)
    (hM : Met l y (ws_ y bts L (some ty)) rm (PW D tysc w (.ref b0 :: As) H.size) (QI D tysc post f (va_A w H.size)) 0 0 (va_A w H.size)) (q : GoodIn lw_all (wsV own idx C y (ws_ y bts L (some ty)))) (hrm : rm.cells = 0 ∧ rm.slots = 0) (hd : y.cls = C ∧ y.cls ≠ "java/lang/invoke/MethodHandle" ∧ y.cls ≠ "java/lang/invoke/VarHandle" ∧ (parseMethodDescriptor y.desc).map (fun d => d.parameters.length) = some n) (hR : rm.frames + 1 ≤ R.frames ∧ 8 + (L + 11) + rm.locals ≤ R.locals)
    (hK : va_K D vwCl tysc s) (hP : va_P D vwCl ws H) (hD : va_D A ws) (hS : va_S A H0 H locs) (hA : ∀ q, H0.size ≤ q → A q) (isC isR : List Nat) (hCf : isC.filterMap (fun i => ws[i]?) = w) (hC : isC.map (fun i => ws[i]?) = w.map some) (hRr : isR.map (fun i => ws[i]?) = wr.map some) (hn1 : va_nd isC = true) (hn2 : va_nd isR = true) (hdis : ∀ i ∈ isR, i ∉ isC)
    (hc : vwCl[ci]? = some qc) (hqc : qc.1 = C) (he : w[q0]? = some (b0, .inr (ci, fs))) (hn : As.length = n) (hl : lv_has ls nL lv) (hst : st = As.reverse ++ .ref b0 :: rest) (hroom : (rest.map fun v => v.category).sum ≤ 8) (d : decode cc pc = .ok (.invokevirtual idx, 3)) (hf : cells ≤ R.cells ∧ slots ≤ R.slots)
    (kk : ∀ (r : Int32) (u : S) (H1 : Heap) (locs1 : List Loc), post r u → va_P D vwCl (wr ++ f u) H1 → va_D A (wr ++ f u) → va_S A H0 H1 locs1 → W p l e R s m args below meth c H1 locs1 cells slots Q (F0 m (pc + 3) ls (.int r :: rest))) : W p l e R s m args below meth c H locs cells slots Q (F0 m pc ls st) := by
  subst hqc
  have hPc := hP.sub isC hCf
  have hDc := hD.sub isC hn1 hC
  have hFc := va_free hD hS hA isC hC
  refine va_calli (va_runV F hM (cwV n F.2.2.2.2 q rfl hrm.1 hrm.2 hd hR) ⟨fun a U g mk q => by obtain ⟨q0, q1, qP, qK, qD⟩ := q; exact ⟨q0, q1, qP, va_K.moved (u := U) (U := U.calling g mk a) (Vm.Alike.refl U.vm) qK, qD⟩, va_recv hK hPc hc he, fun U hU hW => ⟨rfl, by rw [hU], by rw [hU]; exact hPc, va_K.moved hW.alike hK, hDc.weaken (fun _ _ _ _ => trivial)⟩⟩ rfl hn hl.1 hst (lv_room hroom) d hf) hS (fun q _ h => hFc q h) hFc (fun r u t H1 locs1 ht hvm hp hB hz hk hS1 => ?_)
  obtain ⟨hP1, hK1, hD1⟩ := hB
  rw [ht] at hP1
  obtain ⟨hP2, hD2⟩ := va_join hP hD isC isR hC hRr hn2 hdis hk hFc hP1 hD1
  exact kk r u H1 locs1 hp hP2 hD2 hS1
/-- a call of a method that writes its own cells -/
theorem nc_wv {S : Type} {post : S → Prop} {f : S → va_W} {w wr : va_W} {y : MethodName} {bts : ByteArray} {L idx n q0 ci : Nat} {rm : Room} {As : List Value} {b0 : Nat} {C : String} {qc : vw_C} {fs st : List Value} {lv : List (Nat × Value)} {tysc : List (ClassId × FieldType)} (F : CallFix p m c cc nL s args lw_all own)
    (hM : Met l y (ws_ y bts L none) rm (PW D tysc w (.ref b0 :: As) H.size) (QV D tysc post f (va_A w H.size)) 0 0 (va_A w H.size)) (q : GoodIn lw_all (wsV own idx C y (ws_ y bts L none))) (hrm : rm.cells = 0 ∧ rm.slots = 0) (hd : y.cls = C ∧ y.cls ≠ "java/lang/invoke/MethodHandle" ∧ y.cls ≠ "java/lang/invoke/VarHandle" ∧ (parseMethodDescriptor y.desc).map (fun d => d.parameters.length) = some n) (hR : rm.frames + 1 ≤ R.frames ∧ 8 + (L + 11) + rm.locals ≤ R.locals)
    (hK : va_K D vwCl tysc s) (hP : va_P D vwCl ws H) (hD : va_D A ws) (hS : va_S A H0 H locs) (hA : ∀ q, H0.size ≤ q → A q) (isC isR : List Nat) (hCf : isC.filterMap (fun i => ws[i]?) = w) (hC : isC.map (fun i => ws[i]?) = w.map some) (hRr : isR.map (fun i => ws[i]?) = wr.map some) (hn1 : va_nd isC = true) (hn2 : va_nd isR = true) (hdis : ∀ i ∈ isR, i ∉ isC)
    (hc : vwCl[ci]? = some qc) (hqc : qc.1 = C) (he : w[q0]? = some (b0, .inr (ci, fs))) (hn : As.length = n) (hl : lv_has ls nL lv) (hst : st = As.reverse ++ .ref b0 :: rest) (hroom : (rest.map fun v => v.category).sum ≤ 8) (d : decode cc pc = .ok (.invokevirtual idx, 3)) (hf : cells ≤ R.cells ∧ slots ≤ R.slots)
    (kk : ∀ (u : S) (H1 : Heap) (locs1 : List Loc), post u → va_P D vwCl (wr ++ f u) H1 → va_D A (wr ++ f u) → va_S A H0 H1 locs1 → W p l e R s m args below meth c H1 locs1 cells slots Q (F0 m (pc + 3) ls (rest))) : W p l e R s m args below meth c H locs cells slots Q (F0 m pc ls st) := by
  subst hqc
  have hPc := hP.sub isC hCf
  have hDc := hD.sub isC hn1 hC
  have hFc := va_free hD hS hA isC hC
  refine va_callv (va_runV F hM (cwV n F.2.2.2.2 q rfl hrm.1 hrm.2 hd hR) ⟨fun a U g mk q => by obtain ⟨q0, q1, qP, qK, qD⟩ := q; exact ⟨q0, q1, qP, va_K.moved (u := U) (U := U.calling g mk a) (Vm.Alike.refl U.vm) qK, qD⟩, va_recv hK hPc hc he, fun U hU hW => ⟨rfl, by rw [hU], by rw [hU]; exact hPc, va_K.moved hW.alike hK, hDc.weaken (fun _ _ _ _ => trivial)⟩⟩ rfl hn hl.1 hst (lv_room hroom) d hf) hS (fun q _ h => hFc q h) hFc (fun u t H1 locs1 ht hvm hp hB hz hk hS1 => ?_)
  obtain ⟨hP1, hK1, hD1⟩ := hB
  rw [ht] at hP1
  obtain ⟨hP2, hD2⟩ := va_join hP hD isC isR hC hRr hn2 hdis hk hFc hP1 hD1
  exact kk u H1 locs1 hp hP2 hD2 hS1
theorem rt_ri (hx : p.tables.exec = Jvm.exec) (hb : c.code = cc) (hr : meth.sig.returnType = some .int) (hlk : meth.locks = false) {post : Int32 → Prop} {v : Int32} (d : decode cc pc = .ok (.ireturn, 1)) (hp : post v) : W p l e R s m args below meth c s.heap [] cells slots (MQ below (vp_Si post) args s cells slots (fun _ => False)) (F0 m pc ls [.int v]) :=
  W.iret hx hb hr (fun t ht _ => ⟨v, rfl, hp, ht⟩) (fun _ h => by cases h) d (hlocks := hlk)
theorem rt_rz (hx : p.tables.exec = Jvm.exec) (hb : c.code = cc) (hr : meth.sig.returnType = some .boolean) (hlk : meth.locks = false) {post : Int32 → Prop} {v : Int32} (d : decode cc pc = .ok (.ireturn, 1)) (hn : narrow .boolean (.int v) = .int v) (hp : post v) : W p l e R s m args below meth c s.heap [] cells slots (MQ below (vp_Si post) args s cells slots (fun _ => False)) (F0 m pc ls [.int v]) :=
  W.zret hx hb hr hn (fun t ht _ => ⟨v, rfl, hp, ht⟩) (fun _ h => by cases h) d (hlocks := hlk)
theorem rt_wi (hx : p.tables.exec = Jvm.exec) (hb : c.code = cc) (hr : meth.sig.returnType = some .int) (hlk : meth.locks = false) {S : Type} {post : Int32 → S → Prop} {f : S → va_W} {v : Int32} (d : decode cc pc = .ok (.ireturn, 1)) (hK : va_K D vwCl tys s) (hS : va_S A s.heap H locs) (u : S) (hP : va_P D vwCl (f u) H) (hD : va_D A (f u)) (hp : post v u) : W p l e R s m args below meth c H locs cells slots (MQ below (QI D tys post f A) args s cells slots A) (F0 m pc ls [.int v]) :=
  W.iret hx hb hr (fun t ht hW => ⟨⟨v, u, rfl, hp, by rw [ht]; exact hP, va_K.moved hW.alike hK, hD⟩, hS.F ht⟩) hS.2.2 d (hlocks := hlk)
theorem rt_wz (hx : p.tables.exec = Jvm.exec) (hb : c.code = cc) (hr : meth.sig.returnType = some .boolean) (hlk : meth.locks = false) {S : Type} {post : Int32 → S → Prop} {f : S → va_W} {v : Int32} (d : decode cc pc = .ok (.ireturn, 1)) (hn : narrow .boolean (.int v) = .int v) (hK : va_K D vwCl tys s) (hS : va_S A s.heap H locs) (u : S) (hP : va_P D vwCl (f u) H) (hD : va_D A (f u)) (hp : post v u) : W p l e R s m args below meth c H locs cells slots (MQ below (QI D tys post f A) args s cells slots A) (F0 m pc ls [.int v]) :=
  W.zret hx hb hr hn (fun t ht hW => ⟨⟨v, u, rfl, hp, by rw [ht]; exact hP, va_K.moved hW.alike hK, hD⟩, hS.F ht⟩) hS.2.2 d (hlocks := hlk)
theorem rt_wv (hx : p.tables.exec = Jvm.exec) (hb : c.code = cc) (hr : meth.sig.returnType = none) (hlk : meth.locks = false) {S : Type} {post : S → Prop} {f : S → va_W} (d : decode cc pc = .ok (.return_, 1)) (hK : va_K D vwCl tys s) (hS : va_S A s.heap H locs) (u : S) (hP : va_P D vwCl (f u) H) (hD : va_D A (f u)) (hp : post u) : W p l e R s m args below meth c H locs cells slots (MQ below (QV D tys post f A) args s cells slots A) (F0 m pc ls []) :=
  W.vret hx hb hr (fun t ht hW => ⟨⟨u, rfl, hp, by rw [ht]; exact hP, va_K.moved hW.alike hK, hD⟩, hS.F ht⟩) hS.2.2 d (hlocks := hlk)
theorem lp_w1 {A1 : Type} (I : A1 → Heap → List Loc → Array Slot → Prop) (μ : A1 → Nat) (step : ∀ (a1 : A1) (H : Heap) (locs : List Loc) (ls : Array Slot), I a1 H locs ls → (∀ (b1 : A1) (H' : Heap) (locs' : List Loc) (ls' : Array Slot), μ b1 < μ a1 → I b1 H' locs' ls' → W p l e R s m args below meth c H' locs' cells slots Q (F0 m pc ls' [])) → W p l e R s m args below meth c H locs cells slots Q (F0 m pc ls [])) (a1 : A1) (H : Heap) (locs : List Loc) (ls : Array Slot) (h : I a1 H locs ls) : W p l e R s m args below meth c H locs cells slots Q (F0 m pc ls []) := by
  have key : ∀ (n : Nat) (a1 : A1) (H : Heap) (locs : List Loc) (ls : Array Slot), μ a1 < n → I a1 H locs ls → W p l e R s m args below meth c H locs cells slots Q (F0 m pc ls []) := by
    intro n
    induction n with
    | zero => intro a1 H locs ls hm _; exact absurd hm (Nat.not_lt_zero _)
    | succ n ih => intro a1 H locs ls hm hI; exact step a1 H locs ls hI (fun b1 H' locs' ls' hlt hI' => ih b1 H' locs' ls' (Nat.lt_of_lt_of_le hlt (Nat.le_of_lt_succ hm)) hI')
  exact key (μ a1 + 1) a1 H locs ls (Nat.lt_succ_self _) h
theorem lp_r1 {A1 : Type} (I : A1 → Array Slot → Prop) (μ : A1 → Nat) (step : ∀ (a1 : A1) (ls : Array Slot), I a1 ls → (∀ (b1 : A1) (ls' : Array Slot), μ b1 < μ a1 → I b1 ls' → W p l e R s m args below meth c H locs cells slots Q (F0 m pc ls' [])) → W p l e R s m args below meth c H locs cells slots Q (F0 m pc ls [])) (a1 : A1) (ls : Array Slot) (h : I a1 ls) : W p l e R s m args below meth c H locs cells slots Q (F0 m pc ls []) := by
  have key : ∀ (n : Nat) (a1 : A1) (ls : Array Slot), μ a1 < n → I a1 ls → W p l e R s m args below meth c H locs cells slots Q (F0 m pc ls []) := by
    intro n
    induction n with
    | zero => intro a1 ls hm _; exact absurd hm (Nat.not_lt_zero _)
    | succ n ih => intro a1 ls hm hI; exact step a1 ls hI (fun b1 ls' hlt hI' => ih b1 ls' (Nat.lt_of_lt_of_le hlt (Nat.le_of_lt_succ hm)) hI')
  exact key (μ a1 + 1) a1 ls (Nat.lt_succ_self _) h
theorem lp_w2 {A1 A2 : Type} (I : A1 → A2 → Heap → List Loc → Array Slot → Prop) (μ : A1 → A2 → Nat) (step : ∀ (a1 : A1) (a2 : A2) (H : Heap) (locs : List Loc) (ls : Array Slot), I a1 a2 H locs ls → (∀ (b1 : A1) (b2 : A2) (H' : Heap) (locs' : List Loc) (ls' : Array Slot), μ b1 b2 < μ a1 a2 → I b1 b2 H' locs' ls' → W p l e R s m args below meth c H' locs' cells slots Q (F0 m pc ls' [])) → W p l e R s m args below meth c H locs cells slots Q (F0 m pc ls [])) (a1 : A1) (a2 : A2) (H : Heap) (locs : List Loc) (ls : Array Slot) (h : I a1 a2 H locs ls) : W p l e R s m args below meth c H locs cells slots Q (F0 m pc ls []) := by
  have key : ∀ (n : Nat) (a1 : A1) (a2 : A2) (H : Heap) (locs : List Loc) (ls : Array Slot), μ a1 a2 < n → I a1 a2 H locs ls → W p l e R s m args below meth c H locs cells slots Q (F0 m pc ls []) := by
    intro n
    induction n with
    | zero => intro a1 a2 H locs ls hm _; exact absurd hm (Nat.not_lt_zero _)
    | succ n ih => intro a1 a2 H locs ls hm hI; exact step a1 a2 H locs ls hI (fun b1 b2 H' locs' ls' hlt hI' => ih b1 b2 H' locs' ls' (Nat.lt_of_lt_of_le hlt (Nat.le_of_lt_succ hm)) hI')
  exact key (μ a1 a2 + 1) a1 a2 H locs ls (Nat.lt_succ_self _) h
theorem lp_r2 {A1 A2 : Type} (I : A1 → A2 → Array Slot → Prop) (μ : A1 → A2 → Nat) (step : ∀ (a1 : A1) (a2 : A2) (ls : Array Slot), I a1 a2 ls → (∀ (b1 : A1) (b2 : A2) (ls' : Array Slot), μ b1 b2 < μ a1 a2 → I b1 b2 ls' → W p l e R s m args below meth c H locs cells slots Q (F0 m pc ls' [])) → W p l e R s m args below meth c H locs cells slots Q (F0 m pc ls [])) (a1 : A1) (a2 : A2) (ls : Array Slot) (h : I a1 a2 ls) : W p l e R s m args below meth c H locs cells slots Q (F0 m pc ls []) := by
  have key : ∀ (n : Nat) (a1 : A1) (a2 : A2) (ls : Array Slot), μ a1 a2 < n → I a1 a2 ls → W p l e R s m args below meth c H locs cells slots Q (F0 m pc ls []) := by
    intro n
    induction n with
    | zero => intro a1 a2 ls hm _; exact absurd hm (Nat.not_lt_zero _)
    | succ n ih => intro a1 a2 ls hm hI; exact step a1 a2 ls hI (fun b1 b2 ls' hlt hI' => ih b1 b2 ls' (Nat.lt_of_lt_of_le hlt (Nat.le_of_lt_succ hm)) hI')
  exact key (μ a1 a2 + 1) a1 a2 ls (Nat.lt_succ_self _) h
theorem lp_w3 {A1 A2 A3 : Type} (I : A1 → A2 → A3 → Heap → List Loc → Array Slot → Prop) (μ : A1 → A2 → A3 → Nat) (step : ∀ (a1 : A1) (a2 : A2) (a3 : A3) (H : Heap) (locs : List Loc) (ls : Array Slot), I a1 a2 a3 H locs ls → (∀ (b1 : A1) (b2 : A2) (b3 : A3) (H' : Heap) (locs' : List Loc) (ls' : Array Slot), μ b1 b2 b3 < μ a1 a2 a3 → I b1 b2 b3 H' locs' ls' → W p l e R s m args below meth c H' locs' cells slots Q (F0 m pc ls' [])) → W p l e R s m args below meth c H locs cells slots Q (F0 m pc ls [])) (a1 : A1) (a2 : A2) (a3 : A3) (H : Heap) (locs : List Loc) (ls : Array Slot) (h : I a1 a2 a3 H locs ls) : W p l e R s m args below meth c H locs cells slots Q (F0 m pc ls []) := by
  have key : ∀ (n : Nat) (a1 : A1) (a2 : A2) (a3 : A3) (H : Heap) (locs : List Loc) (ls : Array Slot), μ a1 a2 a3 < n → I a1 a2 a3 H locs ls → W p l e R s m args below meth c H locs cells slots Q (F0 m pc ls []) := by
    intro n
    induction n with
    | zero => intro a1 a2 a3 H locs ls hm _; exact absurd hm (Nat.not_lt_zero _)
    | succ n ih => intro a1 a2 a3 H locs ls hm hI; exact step a1 a2 a3 H locs ls hI (fun b1 b2 b3 H' locs' ls' hlt hI' => ih b1 b2 b3 H' locs' ls' (Nat.lt_of_lt_of_le hlt (Nat.le_of_lt_succ hm)) hI')
  exact key (μ a1 a2 a3 + 1) a1 a2 a3 H locs ls (Nat.lt_succ_self _) h
theorem lp_r3 {A1 A2 A3 : Type} (I : A1 → A2 → A3 → Array Slot → Prop) (μ : A1 → A2 → A3 → Nat) (step : ∀ (a1 : A1) (a2 : A2) (a3 : A3) (ls : Array Slot), I a1 a2 a3 ls → (∀ (b1 : A1) (b2 : A2) (b3 : A3) (ls' : Array Slot), μ b1 b2 b3 < μ a1 a2 a3 → I b1 b2 b3 ls' → W p l e R s m args below meth c H locs cells slots Q (F0 m pc ls' [])) → W p l e R s m args below meth c H locs cells slots Q (F0 m pc ls [])) (a1 : A1) (a2 : A2) (a3 : A3) (ls : Array Slot) (h : I a1 a2 a3 ls) : W p l e R s m args below meth c H locs cells slots Q (F0 m pc ls []) := by
  have key : ∀ (n : Nat) (a1 : A1) (a2 : A2) (a3 : A3) (ls : Array Slot), μ a1 a2 a3 < n → I a1 a2 a3 ls → W p l e R s m args below meth c H locs cells slots Q (F0 m pc ls []) := by
    intro n
    induction n with
    | zero => intro a1 a2 a3 ls hm _; exact absurd hm (Nat.not_lt_zero _)
    | succ n ih => intro a1 a2 a3 ls hm hI; exact step a1 a2 a3 ls hI (fun b1 b2 b3 ls' hlt hI' => ih b1 b2 b3 ls' (Nat.lt_of_lt_of_le hlt (Nat.le_of_lt_succ hm)) hI')
  exact key (μ a1 a2 a3 + 1) a1 a2 a3 ls (Nat.lt_succ_self _) h
theorem lp_w4 {A1 A2 A3 A4 : Type} (I : A1 → A2 → A3 → A4 → Heap → List Loc → Array Slot → Prop) (μ : A1 → A2 → A3 → A4 → Nat) (step : ∀ (a1 : A1) (a2 : A2) (a3 : A3) (a4 : A4) (H : Heap) (locs : List Loc) (ls : Array Slot), I a1 a2 a3 a4 H locs ls → (∀ (b1 : A1) (b2 : A2) (b3 : A3) (b4 : A4) (H' : Heap) (locs' : List Loc) (ls' : Array Slot), μ b1 b2 b3 b4 < μ a1 a2 a3 a4 → I b1 b2 b3 b4 H' locs' ls' → W p l e R s m args below meth c H' locs' cells slots Q (F0 m pc ls' [])) → W p l e R s m args below meth c H locs cells slots Q (F0 m pc ls [])) (a1 : A1) (a2 : A2) (a3 : A3) (a4 : A4) (H : Heap) (locs : List Loc) (ls : Array Slot) (h : I a1 a2 a3 a4 H locs ls) : W p l e R s m args below meth c H locs cells slots Q (F0 m pc ls []) := by
  have key : ∀ (n : Nat) (a1 : A1) (a2 : A2) (a3 : A3) (a4 : A4) (H : Heap) (locs : List Loc) (ls : Array Slot), μ a1 a2 a3 a4 < n → I a1 a2 a3 a4 H locs ls → W p l e R s m args below meth c H locs cells slots Q (F0 m pc ls []) := by
    intro n
    induction n with
    | zero => intro a1 a2 a3 a4 H locs ls hm _; exact absurd hm (Nat.not_lt_zero _)
    | succ n ih => intro a1 a2 a3 a4 H locs ls hm hI; exact step a1 a2 a3 a4 H locs ls hI (fun b1 b2 b3 b4 H' locs' ls' hlt hI' => ih b1 b2 b3 b4 H' locs' ls' (Nat.lt_of_lt_of_le hlt (Nat.le_of_lt_succ hm)) hI')
  exact key (μ a1 a2 a3 a4 + 1) a1 a2 a3 a4 H locs ls (Nat.lt_succ_self _) h
theorem lp_r4 {A1 A2 A3 A4 : Type} (I : A1 → A2 → A3 → A4 → Array Slot → Prop) (μ : A1 → A2 → A3 → A4 → Nat) (step : ∀ (a1 : A1) (a2 : A2) (a3 : A3) (a4 : A4) (ls : Array Slot), I a1 a2 a3 a4 ls → (∀ (b1 : A1) (b2 : A2) (b3 : A3) (b4 : A4) (ls' : Array Slot), μ b1 b2 b3 b4 < μ a1 a2 a3 a4 → I b1 b2 b3 b4 ls' → W p l e R s m args below meth c H locs cells slots Q (F0 m pc ls' [])) → W p l e R s m args below meth c H locs cells slots Q (F0 m pc ls [])) (a1 : A1) (a2 : A2) (a3 : A3) (a4 : A4) (ls : Array Slot) (h : I a1 a2 a3 a4 ls) : W p l e R s m args below meth c H locs cells slots Q (F0 m pc ls []) := by
  have key : ∀ (n : Nat) (a1 : A1) (a2 : A2) (a3 : A3) (a4 : A4) (ls : Array Slot), μ a1 a2 a3 a4 < n → I a1 a2 a3 a4 ls → W p l e R s m args below meth c H locs cells slots Q (F0 m pc ls []) := by
    intro n
    induction n with
    | zero => intro a1 a2 a3 a4 ls hm _; exact absurd hm (Nat.not_lt_zero _)
    | succ n ih => intro a1 a2 a3 a4 ls hm hI; exact step a1 a2 a3 a4 ls hI (fun b1 b2 b3 b4 ls' hlt hI' => ih b1 b2 b3 b4 ls' (Nat.lt_of_lt_of_le hlt (Nat.le_of_lt_succ hm)) hI')
  exact key (μ a1 a2 a3 a4 + 1) a1 a2 a3 a4 ls (Nat.lt_succ_self _) h
theorem lp_w5 {A1 A2 A3 A4 A5 : Type} (I : A1 → A2 → A3 → A4 → A5 → Heap → List Loc → Array Slot → Prop) (μ : A1 → A2 → A3 → A4 → A5 → Nat) (step : ∀ (a1 : A1) (a2 : A2) (a3 : A3) (a4 : A4) (a5 : A5) (H : Heap) (locs : List Loc) (ls : Array Slot), I a1 a2 a3 a4 a5 H locs ls → (∀ (b1 : A1) (b2 : A2) (b3 : A3) (b4 : A4) (b5 : A5) (H' : Heap) (locs' : List Loc) (ls' : Array Slot), μ b1 b2 b3 b4 b5 < μ a1 a2 a3 a4 a5 → I b1 b2 b3 b4 b5 H' locs' ls' → W p l e R s m args below meth c H' locs' cells slots Q (F0 m pc ls' [])) → W p l e R s m args below meth c H locs cells slots Q (F0 m pc ls [])) (a1 : A1) (a2 : A2) (a3 : A3) (a4 : A4) (a5 : A5) (H : Heap) (locs : List Loc) (ls : Array Slot) (h : I a1 a2 a3 a4 a5 H locs ls) : W p l e R s m args below meth c H locs cells slots Q (F0 m pc ls []) := by
  have key : ∀ (n : Nat) (a1 : A1) (a2 : A2) (a3 : A3) (a4 : A4) (a5 : A5) (H : Heap) (locs : List Loc) (ls : Array Slot), μ a1 a2 a3 a4 a5 < n → I a1 a2 a3 a4 a5 H locs ls → W p l e R s m args below meth c H locs cells slots Q (F0 m pc ls []) := by
    intro n
    induction n with
    | zero => intro a1 a2 a3 a4 a5 H locs ls hm _; exact absurd hm (Nat.not_lt_zero _)
    | succ n ih => intro a1 a2 a3 a4 a5 H locs ls hm hI; exact step a1 a2 a3 a4 a5 H locs ls hI (fun b1 b2 b3 b4 b5 H' locs' ls' hlt hI' => ih b1 b2 b3 b4 b5 H' locs' ls' (Nat.lt_of_lt_of_le hlt (Nat.le_of_lt_succ hm)) hI')
  exact key (μ a1 a2 a3 a4 a5 + 1) a1 a2 a3 a4 a5 H locs ls (Nat.lt_succ_self _) h
theorem lp_r5 {A1 A2 A3 A4 A5 : Type} (I : A1 → A2 → A3 → A4 → A5 → Array Slot → Prop) (μ : A1 → A2 → A3 → A4 → A5 → Nat) (step : ∀ (a1 : A1) (a2 : A2) (a3 : A3) (a4 : A4) (a5 : A5) (ls : Array Slot), I a1 a2 a3 a4 a5 ls → (∀ (b1 : A1) (b2 : A2) (b3 : A3) (b4 : A4) (b5 : A5) (ls' : Array Slot), μ b1 b2 b3 b4 b5 < μ a1 a2 a3 a4 a5 → I b1 b2 b3 b4 b5 ls' → W p l e R s m args below meth c H locs cells slots Q (F0 m pc ls' [])) → W p l e R s m args below meth c H locs cells slots Q (F0 m pc ls [])) (a1 : A1) (a2 : A2) (a3 : A3) (a4 : A4) (a5 : A5) (ls : Array Slot) (h : I a1 a2 a3 a4 a5 ls) : W p l e R s m args below meth c H locs cells slots Q (F0 m pc ls []) := by
  have key : ∀ (n : Nat) (a1 : A1) (a2 : A2) (a3 : A3) (a4 : A4) (a5 : A5) (ls : Array Slot), μ a1 a2 a3 a4 a5 < n → I a1 a2 a3 a4 a5 ls → W p l e R s m args below meth c H locs cells slots Q (F0 m pc ls []) := by
    intro n
    induction n with
    | zero => intro a1 a2 a3 a4 a5 ls hm _; exact absurd hm (Nat.not_lt_zero _)
    | succ n ih => intro a1 a2 a3 a4 a5 ls hm hI; exact step a1 a2 a3 a4 a5 ls hI (fun b1 b2 b3 b4 b5 ls' hlt hI' => ih b1 b2 b3 b4 b5 ls' (Nat.lt_of_lt_of_le hlt (Nat.le_of_lt_succ hm)) hI')
  exact key (μ a1 a2 a3 a4 a5 + 1) a1 a2 a3 a4 a5 ls (Nat.lt_succ_self _) h
theorem lp_w6 {A1 A2 A3 A4 A5 A6 : Type} (I : A1 → A2 → A3 → A4 → A5 → A6 → Heap → List Loc → Array Slot → Prop) (μ : A1 → A2 → A3 → A4 → A5 → A6 → Nat) (step : ∀ (a1 : A1) (a2 : A2) (a3 : A3) (a4 : A4) (a5 : A5) (a6 : A6) (H : Heap) (locs : List Loc) (ls : Array Slot), I a1 a2 a3 a4 a5 a6 H locs ls → (∀ (b1 : A1) (b2 : A2) (b3 : A3) (b4 : A4) (b5 : A5) (b6 : A6) (H' : Heap) (locs' : List Loc) (ls' : Array Slot), μ b1 b2 b3 b4 b5 b6 < μ a1 a2 a3 a4 a5 a6 → I b1 b2 b3 b4 b5 b6 H' locs' ls' → W p l e R s m args below meth c H' locs' cells slots Q (F0 m pc ls' [])) → W p l e R s m args below meth c H locs cells slots Q (F0 m pc ls [])) (a1 : A1) (a2 : A2) (a3 : A3) (a4 : A4) (a5 : A5) (a6 : A6) (H : Heap) (locs : List Loc) (ls : Array Slot) (h : I a1 a2 a3 a4 a5 a6 H locs ls) : W p l e R s m args below meth c H locs cells slots Q (F0 m pc ls []) := by
  have key : ∀ (n : Nat) (a1 : A1) (a2 : A2) (a3 : A3) (a4 : A4) (a5 : A5) (a6 : A6) (H : Heap) (locs : List Loc) (ls : Array Slot), μ a1 a2 a3 a4 a5 a6 < n → I a1 a2 a3 a4 a5 a6 H locs ls → W p l e R s m args below meth c H locs cells slots Q (F0 m pc ls []) := by
    intro n
    induction n with
    | zero => intro a1 a2 a3 a4 a5 a6 H locs ls hm _; exact absurd hm (Nat.not_lt_zero _)
    | succ n ih => intro a1 a2 a3 a4 a5 a6 H locs ls hm hI; exact step a1 a2 a3 a4 a5 a6 H locs ls hI (fun b1 b2 b3 b4 b5 b6 H' locs' ls' hlt hI' => ih b1 b2 b3 b4 b5 b6 H' locs' ls' (Nat.lt_of_lt_of_le hlt (Nat.le_of_lt_succ hm)) hI')
  exact key (μ a1 a2 a3 a4 a5 a6 + 1) a1 a2 a3 a4 a5 a6 H locs ls (Nat.lt_succ_self _) h
theorem lp_r6 {A1 A2 A3 A4 A5 A6 : Type} (I : A1 → A2 → A3 → A4 → A5 → A6 → Array Slot → Prop) (μ : A1 → A2 → A3 → A4 → A5 → A6 → Nat) (step : ∀ (a1 : A1) (a2 : A2) (a3 : A3) (a4 : A4) (a5 : A5) (a6 : A6) (ls : Array Slot), I a1 a2 a3 a4 a5 a6 ls → (∀ (b1 : A1) (b2 : A2) (b3 : A3) (b4 : A4) (b5 : A5) (b6 : A6) (ls' : Array Slot), μ b1 b2 b3 b4 b5 b6 < μ a1 a2 a3 a4 a5 a6 → I b1 b2 b3 b4 b5 b6 ls' → W p l e R s m args below meth c H locs cells slots Q (F0 m pc ls' [])) → W p l e R s m args below meth c H locs cells slots Q (F0 m pc ls [])) (a1 : A1) (a2 : A2) (a3 : A3) (a4 : A4) (a5 : A5) (a6 : A6) (ls : Array Slot) (h : I a1 a2 a3 a4 a5 a6 ls) : W p l e R s m args below meth c H locs cells slots Q (F0 m pc ls []) := by
  have key : ∀ (n : Nat) (a1 : A1) (a2 : A2) (a3 : A3) (a4 : A4) (a5 : A5) (a6 : A6) (ls : Array Slot), μ a1 a2 a3 a4 a5 a6 < n → I a1 a2 a3 a4 a5 a6 ls → W p l e R s m args below meth c H locs cells slots Q (F0 m pc ls []) := by
    intro n
    induction n with
    | zero => intro a1 a2 a3 a4 a5 a6 ls hm _; exact absurd hm (Nat.not_lt_zero _)
    | succ n ih => intro a1 a2 a3 a4 a5 a6 ls hm hI; exact step a1 a2 a3 a4 a5 a6 ls hI (fun b1 b2 b3 b4 b5 b6 ls' hlt hI' => ih b1 b2 b3 b4 b5 b6 ls' (Nat.lt_of_lt_of_le hlt (Nat.le_of_lt_succ hm)) hI')
  exact key (μ a1 a2 a3 a4 a5 a6 + 1) a1 a2 a3 a4 a5 a6 ls (Nat.lt_succ_self _) h
theorem lp_w7 {A1 A2 A3 A4 A5 A6 A7 : Type} (I : A1 → A2 → A3 → A4 → A5 → A6 → A7 → Heap → List Loc → Array Slot → Prop) (μ : A1 → A2 → A3 → A4 → A5 → A6 → A7 → Nat) (step : ∀ (a1 : A1) (a2 : A2) (a3 : A3) (a4 : A4) (a5 : A5) (a6 : A6) (a7 : A7) (H : Heap) (locs : List Loc) (ls : Array Slot), I a1 a2 a3 a4 a5 a6 a7 H locs ls → (∀ (b1 : A1) (b2 : A2) (b3 : A3) (b4 : A4) (b5 : A5) (b6 : A6) (b7 : A7) (H' : Heap) (locs' : List Loc) (ls' : Array Slot), μ b1 b2 b3 b4 b5 b6 b7 < μ a1 a2 a3 a4 a5 a6 a7 → I b1 b2 b3 b4 b5 b6 b7 H' locs' ls' → W p l e R s m args below meth c H' locs' cells slots Q (F0 m pc ls' [])) → W p l e R s m args below meth c H locs cells slots Q (F0 m pc ls [])) (a1 : A1) (a2 : A2) (a3 : A3) (a4 : A4) (a5 : A5) (a6 : A6) (a7 : A7) (H : Heap) (locs : List Loc) (ls : Array Slot) (h : I a1 a2 a3 a4 a5 a6 a7 H locs ls) : W p l e R s m args below meth c H locs cells slots Q (F0 m pc ls []) := by
  have key : ∀ (n : Nat) (a1 : A1) (a2 : A2) (a3 : A3) (a4 : A4) (a5 : A5) (a6 : A6) (a7 : A7) (H : Heap) (locs : List Loc) (ls : Array Slot), μ a1 a2 a3 a4 a5 a6 a7 < n → I a1 a2 a3 a4 a5 a6 a7 H locs ls → W p l e R s m args below meth c H locs cells slots Q (F0 m pc ls []) := by
    intro n
    induction n with
    | zero => intro a1 a2 a3 a4 a5 a6 a7 H locs ls hm _; exact absurd hm (Nat.not_lt_zero _)
    | succ n ih => intro a1 a2 a3 a4 a5 a6 a7 H locs ls hm hI; exact step a1 a2 a3 a4 a5 a6 a7 H locs ls hI (fun b1 b2 b3 b4 b5 b6 b7 H' locs' ls' hlt hI' => ih b1 b2 b3 b4 b5 b6 b7 H' locs' ls' (Nat.lt_of_lt_of_le hlt (Nat.le_of_lt_succ hm)) hI')
  exact key (μ a1 a2 a3 a4 a5 a6 a7 + 1) a1 a2 a3 a4 a5 a6 a7 H locs ls (Nat.lt_succ_self _) h
theorem lp_r7 {A1 A2 A3 A4 A5 A6 A7 : Type} (I : A1 → A2 → A3 → A4 → A5 → A6 → A7 → Array Slot → Prop) (μ : A1 → A2 → A3 → A4 → A5 → A6 → A7 → Nat) (step : ∀ (a1 : A1) (a2 : A2) (a3 : A3) (a4 : A4) (a5 : A5) (a6 : A6) (a7 : A7) (ls : Array Slot), I a1 a2 a3 a4 a5 a6 a7 ls → (∀ (b1 : A1) (b2 : A2) (b3 : A3) (b4 : A4) (b5 : A5) (b6 : A6) (b7 : A7) (ls' : Array Slot), μ b1 b2 b3 b4 b5 b6 b7 < μ a1 a2 a3 a4 a5 a6 a7 → I b1 b2 b3 b4 b5 b6 b7 ls' → W p l e R s m args below meth c H locs cells slots Q (F0 m pc ls' [])) → W p l e R s m args below meth c H locs cells slots Q (F0 m pc ls [])) (a1 : A1) (a2 : A2) (a3 : A3) (a4 : A4) (a5 : A5) (a6 : A6) (a7 : A7) (ls : Array Slot) (h : I a1 a2 a3 a4 a5 a6 a7 ls) : W p l e R s m args below meth c H locs cells slots Q (F0 m pc ls []) := by
  have key : ∀ (n : Nat) (a1 : A1) (a2 : A2) (a3 : A3) (a4 : A4) (a5 : A5) (a6 : A6) (a7 : A7) (ls : Array Slot), μ a1 a2 a3 a4 a5 a6 a7 < n → I a1 a2 a3 a4 a5 a6 a7 ls → W p l e R s m args below meth c H locs cells slots Q (F0 m pc ls []) := by
    intro n
    induction n with
    | zero => intro a1 a2 a3 a4 a5 a6 a7 ls hm _; exact absurd hm (Nat.not_lt_zero _)
    | succ n ih => intro a1 a2 a3 a4 a5 a6 a7 ls hm hI; exact step a1 a2 a3 a4 a5 a6 a7 ls hI (fun b1 b2 b3 b4 b5 b6 b7 ls' hlt hI' => ih b1 b2 b3 b4 b5 b6 b7 ls' (Nat.lt_of_lt_of_le hlt (Nat.le_of_lt_succ hm)) hI')
  exact key (μ a1 a2 a3 a4 a5 a6 a7 + 1) a1 a2 a3 a4 a5 a6 a7 ls (Nat.lt_succ_self _) h
theorem lp_w8 {A1 A2 A3 A4 A5 A6 A7 A8 : Type} (I : A1 → A2 → A3 → A4 → A5 → A6 → A7 → A8 → Heap → List Loc → Array Slot → Prop) (μ : A1 → A2 → A3 → A4 → A5 → A6 → A7 → A8 → Nat) (step : ∀ (a1 : A1) (a2 : A2) (a3 : A3) (a4 : A4) (a5 : A5) (a6 : A6) (a7 : A7) (a8 : A8) (H : Heap) (locs : List Loc) (ls : Array Slot), I a1 a2 a3 a4 a5 a6 a7 a8 H locs ls → (∀ (b1 : A1) (b2 : A2) (b3 : A3) (b4 : A4) (b5 : A5) (b6 : A6) (b7 : A7) (b8 : A8) (H' : Heap) (locs' : List Loc) (ls' : Array Slot), μ b1 b2 b3 b4 b5 b6 b7 b8 < μ a1 a2 a3 a4 a5 a6 a7 a8 → I b1 b2 b3 b4 b5 b6 b7 b8 H' locs' ls' → W p l e R s m args below meth c H' locs' cells slots Q (F0 m pc ls' [])) → W p l e R s m args below meth c H locs cells slots Q (F0 m pc ls [])) (a1 : A1) (a2 : A2) (a3 : A3) (a4 : A4) (a5 : A5) (a6 : A6) (a7 : A7) (a8 : A8) (H : Heap) (locs : List Loc) (ls : Array Slot) (h : I a1 a2 a3 a4 a5 a6 a7 a8 H locs ls) : W p l e R s m args below meth c H locs cells slots Q (F0 m pc ls []) := by
  have key : ∀ (n : Nat) (a1 : A1) (a2 : A2) (a3 : A3) (a4 : A4) (a5 : A5) (a6 : A6) (a7 : A7) (a8 : A8) (H : Heap) (locs : List Loc) (ls : Array Slot), μ a1 a2 a3 a4 a5 a6 a7 a8 < n → I a1 a2 a3 a4 a5 a6 a7 a8 H locs ls → W p l e R s m args below meth c H locs cells slots Q (F0 m pc ls []) := by
    intro n
    induction n with
    | zero => intro a1 a2 a3 a4 a5 a6 a7 a8 H locs ls hm _; exact absurd hm (Nat.not_lt_zero _)
    | succ n ih => intro a1 a2 a3 a4 a5 a6 a7 a8 H locs ls hm hI; exact step a1 a2 a3 a4 a5 a6 a7 a8 H locs ls hI (fun b1 b2 b3 b4 b5 b6 b7 b8 H' locs' ls' hlt hI' => ih b1 b2 b3 b4 b5 b6 b7 b8 H' locs' ls' (Nat.lt_of_lt_of_le hlt (Nat.le_of_lt_succ hm)) hI')
  exact key (μ a1 a2 a3 a4 a5 a6 a7 a8 + 1) a1 a2 a3 a4 a5 a6 a7 a8 H locs ls (Nat.lt_succ_self _) h
theorem lp_r8 {A1 A2 A3 A4 A5 A6 A7 A8 : Type} (I : A1 → A2 → A3 → A4 → A5 → A6 → A7 → A8 → Array Slot → Prop) (μ : A1 → A2 → A3 → A4 → A5 → A6 → A7 → A8 → Nat) (step : ∀ (a1 : A1) (a2 : A2) (a3 : A3) (a4 : A4) (a5 : A5) (a6 : A6) (a7 : A7) (a8 : A8) (ls : Array Slot), I a1 a2 a3 a4 a5 a6 a7 a8 ls → (∀ (b1 : A1) (b2 : A2) (b3 : A3) (b4 : A4) (b5 : A5) (b6 : A6) (b7 : A7) (b8 : A8) (ls' : Array Slot), μ b1 b2 b3 b4 b5 b6 b7 b8 < μ a1 a2 a3 a4 a5 a6 a7 a8 → I b1 b2 b3 b4 b5 b6 b7 b8 ls' → W p l e R s m args below meth c H locs cells slots Q (F0 m pc ls' [])) → W p l e R s m args below meth c H locs cells slots Q (F0 m pc ls [])) (a1 : A1) (a2 : A2) (a3 : A3) (a4 : A4) (a5 : A5) (a6 : A6) (a7 : A7) (a8 : A8) (ls : Array Slot) (h : I a1 a2 a3 a4 a5 a6 a7 a8 ls) : W p l e R s m args below meth c H locs cells slots Q (F0 m pc ls []) := by
  have key : ∀ (n : Nat) (a1 : A1) (a2 : A2) (a3 : A3) (a4 : A4) (a5 : A5) (a6 : A6) (a7 : A7) (a8 : A8) (ls : Array Slot), μ a1 a2 a3 a4 a5 a6 a7 a8 < n → I a1 a2 a3 a4 a5 a6 a7 a8 ls → W p l e R s m args below meth c H locs cells slots Q (F0 m pc ls []) := by
    intro n
    induction n with
    | zero => intro a1 a2 a3 a4 a5 a6 a7 a8 ls hm _; exact absurd hm (Nat.not_lt_zero _)
    | succ n ih => intro a1 a2 a3 a4 a5 a6 a7 a8 ls hm hI; exact step a1 a2 a3 a4 a5 a6 a7 a8 ls hI (fun b1 b2 b3 b4 b5 b6 b7 b8 ls' hlt hI' => ih b1 b2 b3 b4 b5 b6 b7 b8 ls' (Nat.lt_of_lt_of_le hlt (Nat.le_of_lt_succ hm)) hI')
  exact key (μ a1 a2 a3 a4 a5 a6 a7 a8 + 1) a1 a2 a3 a4 a5 a6 a7 a8 ls (Nat.lt_succ_self _) h
theorem lp_w9 {A1 A2 A3 A4 A5 A6 A7 A8 A9 : Type} (I : A1 → A2 → A3 → A4 → A5 → A6 → A7 → A8 → A9 → Heap → List Loc → Array Slot → Prop) (μ : A1 → A2 → A3 → A4 → A5 → A6 → A7 → A8 → A9 → Nat) (step : ∀ (a1 : A1) (a2 : A2) (a3 : A3) (a4 : A4) (a5 : A5) (a6 : A6) (a7 : A7) (a8 : A8) (a9 : A9) (H : Heap) (locs : List Loc) (ls : Array Slot), I a1 a2 a3 a4 a5 a6 a7 a8 a9 H locs ls → (∀ (b1 : A1) (b2 : A2) (b3 : A3) (b4 : A4) (b5 : A5) (b6 : A6) (b7 : A7) (b8 : A8) (b9 : A9) (H' : Heap) (locs' : List Loc) (ls' : Array Slot), μ b1 b2 b3 b4 b5 b6 b7 b8 b9 < μ a1 a2 a3 a4 a5 a6 a7 a8 a9 → I b1 b2 b3 b4 b5 b6 b7 b8 b9 H' locs' ls' → W p l e R s m args below meth c H' locs' cells slots Q (F0 m pc ls' [])) → W p l e R s m args below meth c H locs cells slots Q (F0 m pc ls [])) (a1 : A1) (a2 : A2) (a3 : A3) (a4 : A4) (a5 : A5) (a6 : A6) (a7 : A7) (a8 : A8) (a9 : A9) (H : Heap) (locs : List Loc) (ls : Array Slot) (h : I a1 a2 a3 a4 a5 a6 a7 a8 a9 H locs ls) : W p l e R s m args below meth c H locs cells slots Q (F0 m pc ls []) := by
  have key : ∀ (n : Nat) (a1 : A1) (a2 : A2) (a3 : A3) (a4 : A4) (a5 : A5) (a6 : A6) (a7 : A7) (a8 : A8) (a9 : A9) (H : Heap) (locs : List Loc) (ls : Array Slot), μ a1 a2 a3 a4 a5 a6 a7 a8 a9 < n → I a1 a2 a3 a4 a5 a6 a7 a8 a9 H locs ls → W p l e R s m args below meth c H locs cells slots Q (F0 m pc ls []) := by
    intro n
    induction n with
    | zero => intro a1 a2 a3 a4 a5 a6 a7 a8 a9 H locs ls hm _; exact absurd hm (Nat.not_lt_zero _)
    | succ n ih => intro a1 a2 a3 a4 a5 a6 a7 a8 a9 H locs ls hm hI; exact step a1 a2 a3 a4 a5 a6 a7 a8 a9 H locs ls hI (fun b1 b2 b3 b4 b5 b6 b7 b8 b9 H' locs' ls' hlt hI' => ih b1 b2 b3 b4 b5 b6 b7 b8 b9 H' locs' ls' (Nat.lt_of_lt_of_le hlt (Nat.le_of_lt_succ hm)) hI')
  exact key (μ a1 a2 a3 a4 a5 a6 a7 a8 a9 + 1) a1 a2 a3 a4 a5 a6 a7 a8 a9 H locs ls (Nat.lt_succ_self _) h
theorem lp_r9 {A1 A2 A3 A4 A5 A6 A7 A8 A9 : Type} (I : A1 → A2 → A3 → A4 → A5 → A6 → A7 → A8 → A9 → Array Slot → Prop) (μ : A1 → A2 → A3 → A4 → A5 → A6 → A7 → A8 → A9 → Nat) (step : ∀ (a1 : A1) (a2 : A2) (a3 : A3) (a4 : A4) (a5 : A5) (a6 : A6) (a7 : A7) (a8 : A8) (a9 : A9) (ls : Array Slot), I a1 a2 a3 a4 a5 a6 a7 a8 a9 ls → (∀ (b1 : A1) (b2 : A2) (b3 : A3) (b4 : A4) (b5 : A5) (b6 : A6) (b7 : A7) (b8 : A8) (b9 : A9) (ls' : Array Slot), μ b1 b2 b3 b4 b5 b6 b7 b8 b9 < μ a1 a2 a3 a4 a5 a6 a7 a8 a9 → I b1 b2 b3 b4 b5 b6 b7 b8 b9 ls' → W p l e R s m args below meth c H locs cells slots Q (F0 m pc ls' [])) → W p l e R s m args below meth c H locs cells slots Q (F0 m pc ls [])) (a1 : A1) (a2 : A2) (a3 : A3) (a4 : A4) (a5 : A5) (a6 : A6) (a7 : A7) (a8 : A8) (a9 : A9) (ls : Array Slot) (h : I a1 a2 a3 a4 a5 a6 a7 a8 a9 ls) : W p l e R s m args below meth c H locs cells slots Q (F0 m pc ls []) := by
  have key : ∀ (n : Nat) (a1 : A1) (a2 : A2) (a3 : A3) (a4 : A4) (a5 : A5) (a6 : A6) (a7 : A7) (a8 : A8) (a9 : A9) (ls : Array Slot), μ a1 a2 a3 a4 a5 a6 a7 a8 a9 < n → I a1 a2 a3 a4 a5 a6 a7 a8 a9 ls → W p l e R s m args below meth c H locs cells slots Q (F0 m pc ls []) := by
    intro n
    induction n with
    | zero => intro a1 a2 a3 a4 a5 a6 a7 a8 a9 ls hm _; exact absurd hm (Nat.not_lt_zero _)
    | succ n ih => intro a1 a2 a3 a4 a5 a6 a7 a8 a9 ls hm hI; exact step a1 a2 a3 a4 a5 a6 a7 a8 a9 ls hI (fun b1 b2 b3 b4 b5 b6 b7 b8 b9 ls' hlt hI' => ih b1 b2 b3 b4 b5 b6 b7 b8 b9 ls' (Nat.lt_of_lt_of_le hlt (Nat.le_of_lt_succ hm)) hI')
  exact key (μ a1 a2 a3 a4 a5 a6 a7 a8 a9 + 1) a1 a2 a3 a4 a5 a6 a7 a8 a9 ls (Nat.lt_succ_self _) h
theorem lp_w10 {A1 A2 A3 A4 A5 A6 A7 A8 A9 A10 : Type} (I : A1 → A2 → A3 → A4 → A5 → A6 → A7 → A8 → A9 → A10 → Heap → List Loc → Array Slot → Prop) (μ : A1 → A2 → A3 → A4 → A5 → A6 → A7 → A8 → A9 → A10 → Nat) (step : ∀ (a1 : A1) (a2 : A2) (a3 : A3) (a4 : A4) (a5 : A5) (a6 : A6) (a7 : A7) (a8 : A8) (a9 : A9) (a10 : A10) (H : Heap) (locs : List Loc) (ls : Array Slot), I a1 a2 a3 a4 a5 a6 a7 a8 a9 a10 H locs ls → (∀ (b1 : A1) (b2 : A2) (b3 : A3) (b4 : A4) (b5 : A5) (b6 : A6) (b7 : A7) (b8 : A8) (b9 : A9) (b10 : A10) (H' : Heap) (locs' : List Loc) (ls' : Array Slot), μ b1 b2 b3 b4 b5 b6 b7 b8 b9 b10 < μ a1 a2 a3 a4 a5 a6 a7 a8 a9 a10 → I b1 b2 b3 b4 b5 b6 b7 b8 b9 b10 H' locs' ls' → W p l e R s m args below meth c H' locs' cells slots Q (F0 m pc ls' [])) → W p l e R s m args below meth c H locs cells slots Q (F0 m pc ls [])) (a1 : A1) (a2 : A2) (a3 : A3) (a4 : A4) (a5 : A5) (a6 : A6) (a7 : A7) (a8 : A8) (a9 : A9) (a10 : A10) (H : Heap) (locs : List Loc) (ls : Array Slot) (h : I a1 a2 a3 a4 a5 a6 a7 a8 a9 a10 H locs ls) : W p l e R s m args below meth c H locs cells slots Q (F0 m pc ls []) := by
  have key : ∀ (n : Nat) (a1 : A1) (a2 : A2) (a3 : A3) (a4 : A4) (a5 : A5) (a6 : A6) (a7 : A7) (a8 : A8) (a9 : A9) (a10 : A10) (H : Heap) (locs : List Loc) (ls : Array Slot), μ a1 a2 a3 a4 a5 a6 a7 a8 a9 a10 < n → I a1 a2 a3 a4 a5 a6 a7 a8 a9 a10 H locs ls → W p l e R s m args below meth c H locs cells slots Q (F0 m pc ls []) := by
    intro n
    induction n with
    | zero => intro a1 a2 a3 a4 a5 a6 a7 a8 a9 a10 H locs ls hm _; exact absurd hm (Nat.not_lt_zero _)
    | succ n ih => intro a1 a2 a3 a4 a5 a6 a7 a8 a9 a10 H locs ls hm hI; exact step a1 a2 a3 a4 a5 a6 a7 a8 a9 a10 H locs ls hI (fun b1 b2 b3 b4 b5 b6 b7 b8 b9 b10 H' locs' ls' hlt hI' => ih b1 b2 b3 b4 b5 b6 b7 b8 b9 b10 H' locs' ls' (Nat.lt_of_lt_of_le hlt (Nat.le_of_lt_succ hm)) hI')
  exact key (μ a1 a2 a3 a4 a5 a6 a7 a8 a9 a10 + 1) a1 a2 a3 a4 a5 a6 a7 a8 a9 a10 H locs ls (Nat.lt_succ_self _) h
theorem lp_r10 {A1 A2 A3 A4 A5 A6 A7 A8 A9 A10 : Type} (I : A1 → A2 → A3 → A4 → A5 → A6 → A7 → A8 → A9 → A10 → Array Slot → Prop) (μ : A1 → A2 → A3 → A4 → A5 → A6 → A7 → A8 → A9 → A10 → Nat) (step : ∀ (a1 : A1) (a2 : A2) (a3 : A3) (a4 : A4) (a5 : A5) (a6 : A6) (a7 : A7) (a8 : A8) (a9 : A9) (a10 : A10) (ls : Array Slot), I a1 a2 a3 a4 a5 a6 a7 a8 a9 a10 ls → (∀ (b1 : A1) (b2 : A2) (b3 : A3) (b4 : A4) (b5 : A5) (b6 : A6) (b7 : A7) (b8 : A8) (b9 : A9) (b10 : A10) (ls' : Array Slot), μ b1 b2 b3 b4 b5 b6 b7 b8 b9 b10 < μ a1 a2 a3 a4 a5 a6 a7 a8 a9 a10 → I b1 b2 b3 b4 b5 b6 b7 b8 b9 b10 ls' → W p l e R s m args below meth c H locs cells slots Q (F0 m pc ls' [])) → W p l e R s m args below meth c H locs cells slots Q (F0 m pc ls [])) (a1 : A1) (a2 : A2) (a3 : A3) (a4 : A4) (a5 : A5) (a6 : A6) (a7 : A7) (a8 : A8) (a9 : A9) (a10 : A10) (ls : Array Slot) (h : I a1 a2 a3 a4 a5 a6 a7 a8 a9 a10 ls) : W p l e R s m args below meth c H locs cells slots Q (F0 m pc ls []) := by
  have key : ∀ (n : Nat) (a1 : A1) (a2 : A2) (a3 : A3) (a4 : A4) (a5 : A5) (a6 : A6) (a7 : A7) (a8 : A8) (a9 : A9) (a10 : A10) (ls : Array Slot), μ a1 a2 a3 a4 a5 a6 a7 a8 a9 a10 < n → I a1 a2 a3 a4 a5 a6 a7 a8 a9 a10 ls → W p l e R s m args below meth c H locs cells slots Q (F0 m pc ls []) := by
    intro n
    induction n with
    | zero => intro a1 a2 a3 a4 a5 a6 a7 a8 a9 a10 ls hm _; exact absurd hm (Nat.not_lt_zero _)
    | succ n ih => intro a1 a2 a3 a4 a5 a6 a7 a8 a9 a10 ls hm hI; exact step a1 a2 a3 a4 a5 a6 a7 a8 a9 a10 ls hI (fun b1 b2 b3 b4 b5 b6 b7 b8 b9 b10 ls' hlt hI' => ih b1 b2 b3 b4 b5 b6 b7 b8 b9 b10 ls' (Nat.lt_of_lt_of_le hlt (Nat.le_of_lt_succ hm)) hI')
  exact key (μ a1 a2 a3 a4 a5 a6 a7 a8 a9 a10 + 1) a1 a2 a3 a4 a5 a6 a7 a8 a9 a10 ls (Nat.lt_succ_self _) h
theorem lp_w11 {A1 A2 A3 A4 A5 A6 A7 A8 A9 A10 A11 : Type} (I : A1 → A2 → A3 → A4 → A5 → A6 → A7 → A8 → A9 → A10 → A11 → Heap → List Loc → Array Slot → Prop) (μ : A1 → A2 → A3 → A4 → A5 → A6 → A7 → A8 → A9 → A10 → A11 → Nat) (step : ∀ (a1 : A1) (a2 : A2) (a3 : A3) (a4 : A4) (a5 : A5) (a6 : A6) (a7 : A7) (a8 : A8) (a9 : A9) (a10 : A10) (a11 : A11) (H : Heap) (locs : List Loc) (ls : Array Slot), I a1 a2 a3 a4 a5 a6 a7 a8 a9 a10 a11 H locs ls → (∀ (b1 : A1) (b2 : A2) (b3 : A3) (b4 : A4) (b5 : A5) (b6 : A6) (b7 : A7) (b8 : A8) (b9 : A9) (b10 : A10) (b11 : A11) (H' : Heap) (locs' : List Loc) (ls' : Array Slot), μ b1 b2 b3 b4 b5 b6 b7 b8 b9 b10 b11 < μ a1 a2 a3 a4 a5 a6 a7 a8 a9 a10 a11 → I b1 b2 b3 b4 b5 b6 b7 b8 b9 b10 b11 H' locs' ls' → W p l e R s m args below meth c H' locs' cells slots Q (F0 m pc ls' [])) → W p l e R s m args below meth c H locs cells slots Q (F0 m pc ls [])) (a1 : A1) (a2 : A2) (a3 : A3) (a4 : A4) (a5 : A5) (a6 : A6) (a7 : A7) (a8 : A8) (a9 : A9) (a10 : A10) (a11 : A11) (H : Heap) (locs : List Loc) (ls : Array Slot) (h : I a1 a2 a3 a4 a5 a6 a7 a8 a9 a10 a11 H locs ls) : W p l e R s m args below meth c H locs cells slots Q (F0 m pc ls []) := by
  have key : ∀ (n : Nat) (a1 : A1) (a2 : A2) (a3 : A3) (a4 : A4) (a5 : A5) (a6 : A6) (a7 : A7) (a8 : A8) (a9 : A9) (a10 : A10) (a11 : A11) (H : Heap) (locs : List Loc) (ls : Array Slot), μ a1 a2 a3 a4 a5 a6 a7 a8 a9 a10 a11 < n → I a1 a2 a3 a4 a5 a6 a7 a8 a9 a10 a11 H locs ls → W p l e R s m args below meth c H locs cells slots Q (F0 m pc ls []) := by
    intro n
    induction n with
    | zero => intro a1 a2 a3 a4 a5 a6 a7 a8 a9 a10 a11 H locs ls hm _; exact absurd hm (Nat.not_lt_zero _)
    | succ n ih => intro a1 a2 a3 a4 a5 a6 a7 a8 a9 a10 a11 H locs ls hm hI; exact step a1 a2 a3 a4 a5 a6 a7 a8 a9 a10 a11 H locs ls hI (fun b1 b2 b3 b4 b5 b6 b7 b8 b9 b10 b11 H' locs' ls' hlt hI' => ih b1 b2 b3 b4 b5 b6 b7 b8 b9 b10 b11 H' locs' ls' (Nat.lt_of_lt_of_le hlt (Nat.le_of_lt_succ hm)) hI')
  exact key (μ a1 a2 a3 a4 a5 a6 a7 a8 a9 a10 a11 + 1) a1 a2 a3 a4 a5 a6 a7 a8 a9 a10 a11 H locs ls (Nat.lt_succ_self _) h
theorem lp_r11 {A1 A2 A3 A4 A5 A6 A7 A8 A9 A10 A11 : Type} (I : A1 → A2 → A3 → A4 → A5 → A6 → A7 → A8 → A9 → A10 → A11 → Array Slot → Prop) (μ : A1 → A2 → A3 → A4 → A5 → A6 → A7 → A8 → A9 → A10 → A11 → Nat) (step : ∀ (a1 : A1) (a2 : A2) (a3 : A3) (a4 : A4) (a5 : A5) (a6 : A6) (a7 : A7) (a8 : A8) (a9 : A9) (a10 : A10) (a11 : A11) (ls : Array Slot), I a1 a2 a3 a4 a5 a6 a7 a8 a9 a10 a11 ls → (∀ (b1 : A1) (b2 : A2) (b3 : A3) (b4 : A4) (b5 : A5) (b6 : A6) (b7 : A7) (b8 : A8) (b9 : A9) (b10 : A10) (b11 : A11) (ls' : Array Slot), μ b1 b2 b3 b4 b5 b6 b7 b8 b9 b10 b11 < μ a1 a2 a3 a4 a5 a6 a7 a8 a9 a10 a11 → I b1 b2 b3 b4 b5 b6 b7 b8 b9 b10 b11 ls' → W p l e R s m args below meth c H locs cells slots Q (F0 m pc ls' [])) → W p l e R s m args below meth c H locs cells slots Q (F0 m pc ls [])) (a1 : A1) (a2 : A2) (a3 : A3) (a4 : A4) (a5 : A5) (a6 : A6) (a7 : A7) (a8 : A8) (a9 : A9) (a10 : A10) (a11 : A11) (ls : Array Slot) (h : I a1 a2 a3 a4 a5 a6 a7 a8 a9 a10 a11 ls) : W p l e R s m args below meth c H locs cells slots Q (F0 m pc ls []) := by
  have key : ∀ (n : Nat) (a1 : A1) (a2 : A2) (a3 : A3) (a4 : A4) (a5 : A5) (a6 : A6) (a7 : A7) (a8 : A8) (a9 : A9) (a10 : A10) (a11 : A11) (ls : Array Slot), μ a1 a2 a3 a4 a5 a6 a7 a8 a9 a10 a11 < n → I a1 a2 a3 a4 a5 a6 a7 a8 a9 a10 a11 ls → W p l e R s m args below meth c H locs cells slots Q (F0 m pc ls []) := by
    intro n
    induction n with
    | zero => intro a1 a2 a3 a4 a5 a6 a7 a8 a9 a10 a11 ls hm _; exact absurd hm (Nat.not_lt_zero _)
    | succ n ih => intro a1 a2 a3 a4 a5 a6 a7 a8 a9 a10 a11 ls hm hI; exact step a1 a2 a3 a4 a5 a6 a7 a8 a9 a10 a11 ls hI (fun b1 b2 b3 b4 b5 b6 b7 b8 b9 b10 b11 ls' hlt hI' => ih b1 b2 b3 b4 b5 b6 b7 b8 b9 b10 b11 ls' (Nat.lt_of_lt_of_le hlt (Nat.le_of_lt_succ hm)) hI')
  exact key (μ a1 a2 a3 a4 a5 a6 a7 a8 a9 a10 a11 + 1) a1 a2 a3 a4 a5 a6 a7 a8 a9 a10 a11 ls (Nat.lt_succ_self _) h
theorem lp_w12 {A1 A2 A3 A4 A5 A6 A7 A8 A9 A10 A11 A12 : Type} (I : A1 → A2 → A3 → A4 → A5 → A6 → A7 → A8 → A9 → A10 → A11 → A12 → Heap → List Loc → Array Slot → Prop) (μ : A1 → A2 → A3 → A4 → A5 → A6 → A7 → A8 → A9 → A10 → A11 → A12 → Nat) (step : ∀ (a1 : A1) (a2 : A2) (a3 : A3) (a4 : A4) (a5 : A5) (a6 : A6) (a7 : A7) (a8 : A8) (a9 : A9) (a10 : A10) (a11 : A11) (a12 : A12) (H : Heap) (locs : List Loc) (ls : Array Slot), I a1 a2 a3 a4 a5 a6 a7 a8 a9 a10 a11 a12 H locs ls → (∀ (b1 : A1) (b2 : A2) (b3 : A3) (b4 : A4) (b5 : A5) (b6 : A6) (b7 : A7) (b8 : A8) (b9 : A9) (b10 : A10) (b11 : A11) (b12 : A12) (H' : Heap) (locs' : List Loc) (ls' : Array Slot), μ b1 b2 b3 b4 b5 b6 b7 b8 b9 b10 b11 b12 < μ a1 a2 a3 a4 a5 a6 a7 a8 a9 a10 a11 a12 → I b1 b2 b3 b4 b5 b6 b7 b8 b9 b10 b11 b12 H' locs' ls' → W p l e R s m args below meth c H' locs' cells slots Q (F0 m pc ls' [])) → W p l e R s m args below meth c H locs cells slots Q (F0 m pc ls [])) (a1 : A1) (a2 : A2) (a3 : A3) (a4 : A4) (a5 : A5) (a6 : A6) (a7 : A7) (a8 : A8) (a9 : A9) (a10 : A10) (a11 : A11) (a12 : A12) (H : Heap) (locs : List Loc) (ls : Array Slot) (h : I a1 a2 a3 a4 a5 a6 a7 a8 a9 a10 a11 a12 H locs ls) : W p l e R s m args below meth c H locs cells slots Q (F0 m pc ls []) := by
  have key : ∀ (n : Nat) (a1 : A1) (a2 : A2) (a3 : A3) (a4 : A4) (a5 : A5) (a6 : A6) (a7 : A7) (a8 : A8) (a9 : A9) (a10 : A10) (a11 : A11) (a12 : A12) (H : Heap) (locs : List Loc) (ls : Array Slot), μ a1 a2 a3 a4 a5 a6 a7 a8 a9 a10 a11 a12 < n → I a1 a2 a3 a4 a5 a6 a7 a8 a9 a10 a11 a12 H locs ls → W p l e R s m args below meth c H locs cells slots Q (F0 m pc ls []) := by
    intro n
    induction n with
    | zero => intro a1 a2 a3 a4 a5 a6 a7 a8 a9 a10 a11 a12 H locs ls hm _; exact absurd hm (Nat.not_lt_zero _)
    | succ n ih => intro a1 a2 a3 a4 a5 a6 a7 a8 a9 a10 a11 a12 H locs ls hm hI; exact step a1 a2 a3 a4 a5 a6 a7 a8 a9 a10 a11 a12 H locs ls hI (fun b1 b2 b3 b4 b5 b6 b7 b8 b9 b10 b11 b12 H' locs' ls' hlt hI' => ih b1 b2 b3 b4 b5 b6 b7 b8 b9 b10 b11 b12 H' locs' ls' (Nat.lt_of_lt_of_le hlt (Nat.le_of_lt_succ hm)) hI')
  exact key (μ a1 a2 a3 a4 a5 a6 a7 a8 a9 a10 a11 a12 + 1) a1 a2 a3 a4 a5 a6 a7 a8 a9 a10 a11 a12 H locs ls (Nat.lt_succ_self _) h
theorem lp_r12 {A1 A2 A3 A4 A5 A6 A7 A8 A9 A10 A11 A12 : Type} (I : A1 → A2 → A3 → A4 → A5 → A6 → A7 → A8 → A9 → A10 → A11 → A12 → Array Slot → Prop) (μ : A1 → A2 → A3 → A4 → A5 → A6 → A7 → A8 → A9 → A10 → A11 → A12 → Nat) (step : ∀ (a1 : A1) (a2 : A2) (a3 : A3) (a4 : A4) (a5 : A5) (a6 : A6) (a7 : A7) (a8 : A8) (a9 : A9) (a10 : A10) (a11 : A11) (a12 : A12) (ls : Array Slot), I a1 a2 a3 a4 a5 a6 a7 a8 a9 a10 a11 a12 ls → (∀ (b1 : A1) (b2 : A2) (b3 : A3) (b4 : A4) (b5 : A5) (b6 : A6) (b7 : A7) (b8 : A8) (b9 : A9) (b10 : A10) (b11 : A11) (b12 : A12) (ls' : Array Slot), μ b1 b2 b3 b4 b5 b6 b7 b8 b9 b10 b11 b12 < μ a1 a2 a3 a4 a5 a6 a7 a8 a9 a10 a11 a12 → I b1 b2 b3 b4 b5 b6 b7 b8 b9 b10 b11 b12 ls' → W p l e R s m args below meth c H locs cells slots Q (F0 m pc ls' [])) → W p l e R s m args below meth c H locs cells slots Q (F0 m pc ls [])) (a1 : A1) (a2 : A2) (a3 : A3) (a4 : A4) (a5 : A5) (a6 : A6) (a7 : A7) (a8 : A8) (a9 : A9) (a10 : A10) (a11 : A11) (a12 : A12) (ls : Array Slot) (h : I a1 a2 a3 a4 a5 a6 a7 a8 a9 a10 a11 a12 ls) : W p l e R s m args below meth c H locs cells slots Q (F0 m pc ls []) := by
  have key : ∀ (n : Nat) (a1 : A1) (a2 : A2) (a3 : A3) (a4 : A4) (a5 : A5) (a6 : A6) (a7 : A7) (a8 : A8) (a9 : A9) (a10 : A10) (a11 : A11) (a12 : A12) (ls : Array Slot), μ a1 a2 a3 a4 a5 a6 a7 a8 a9 a10 a11 a12 < n → I a1 a2 a3 a4 a5 a6 a7 a8 a9 a10 a11 a12 ls → W p l e R s m args below meth c H locs cells slots Q (F0 m pc ls []) := by
    intro n
    induction n with
    | zero => intro a1 a2 a3 a4 a5 a6 a7 a8 a9 a10 a11 a12 ls hm _; exact absurd hm (Nat.not_lt_zero _)
    | succ n ih => intro a1 a2 a3 a4 a5 a6 a7 a8 a9 a10 a11 a12 ls hm hI; exact step a1 a2 a3 a4 a5 a6 a7 a8 a9 a10 a11 a12 ls hI (fun b1 b2 b3 b4 b5 b6 b7 b8 b9 b10 b11 b12 ls' hlt hI' => ih b1 b2 b3 b4 b5 b6 b7 b8 b9 b10 b11 b12 ls' (Nat.lt_of_lt_of_le hlt (Nat.le_of_lt_succ hm)) hI')
  exact key (μ a1 a2 a3 a4 a5 a6 a7 a8 a9 a10 a11 a12 + 1) a1 a2 a3 a4 a5 a6 a7 a8 a9 a10 a11 a12 ls (Nat.lt_succ_self _) h
end NV
theorem en_ro {l : Launch} {y : MethodName} {b : ByteArray} {L : Nat} {ty : FieldType} {rm : Room} {D : va_G} {tys : List (ClassId × FieldType)} {w : va_W} {av : List Value} {post : Int32 → Prop} (hy : plainName y.cls = true) (hlen : (lg_sl av).length ≤ L)
    (body : ∀ (p : Program) (e : Env) (s : State) (m : MethodId) (below : List Frame) (meth : Method) (c : Code), CallFix p m c b L s av.toArray lw_all y.cls → meth.sig.returnType = some ty → meth.locks = false → va_K D vwCl tys s → va_P D vwCl w s.heap → ∀ ls : Array Slot, lv_has ls L (lv_args 0 av) → W p l e rm s m av.toArray below meth c s.heap [] 0 0 (MQ below (vp_Si post) av.toArray s 0 0 (fun _ => False)) (F0 m 0 ls [])) :
    Met l y (ws_ y b L (some ty)) rm (PR D tys w av) (vp_Si post) 0 0 (fun _ => False) := by
  refine Met.ofW (cc := b) (maxL := L) (ret := some ty) hy rfl ?_
  intro p e s m args below meth c s₁ B hml hv
  obtain ⟨rfl, hP, hK⟩ := hv
  have hts := atoms_spec (ws := ws_ y b L (some ty)) B.pre
  have hl := lv_entry av (n := L) hlen
  rw [lg_entry_eq]
  exact body p e s m below meth c ⟨B.exec, B.bytes, hml, findClass_of_methodNamed B.named, fun w h => hts w (List.mem_cons_of_mem _ h)⟩ B.returns B.notSynchronized hK hP _ hl
theorem en_st {l : Launch} {y : MethodName} {b : ByteArray} {L : Nat} {ty : FieldType} {rm : Room} {av : List Value} {post : Int32 → Prop} (hy : plainName y.cls = true) (hlen : (lg_sl av).length ≤ L)
    (body : ∀ (p : Program) (e : Env) (s : State) (m : MethodId) (below : List Frame) (meth : Method) (c : Code), CallFix p m c b L s av.toArray lw_all y.cls → meth.sig.returnType = some ty → meth.locks = false → ∀ ls : Array Slot, lv_has ls L (lv_args 0 av) → W p l e rm s m av.toArray below meth c s.heap [] 0 0 (MQ below (vp_Si post) av.toArray s 0 0 (fun _ => False)) (F0 m 0 ls [])) :
    Met l y (ws_ y b L (some ty)) rm (va_Pc av (fun _ => True)) (vp_Si post) 0 0 (fun _ => False) := by
  refine Met.ofW (cc := b) (maxL := L) (ret := some ty) hy rfl ?_
  intro p e s m args below meth c s₁ B hml hv
  obtain ⟨rfl, -⟩ := hv
  have hts := atoms_spec (ws := ws_ y b L (some ty)) B.pre
  have hl := lv_entry av (n := L) hlen
  rw [lg_entry_eq]
  exact body p e s m below meth c ⟨B.exec, B.bytes, hml, findClass_of_methodNamed B.named, fun w h => hts w (List.mem_cons_of_mem _ h)⟩ B.returns B.notSynchronized _ hl
theorem en_wi {l : Launch} {y : MethodName} {b : ByteArray} {L : Nat} {ty : FieldType} {rm : Room} {D : va_G} {tys : List (ClassId × FieldType)} {w : va_W} {av : List Value} {sz : Nat} {S : Type} {post : Int32 → S → Prop} {f : S → va_W} (hy : plainName y.cls = true) (hlen : (lg_sl av).length ≤ L)
    (body : ∀ (p : Program) (e : Env) (s : State) (m : MethodId) (below : List Frame) (meth : Method) (c : Code), CallFix p m c b L s av.toArray lw_all y.cls → meth.sig.returnType = (some ty) → meth.locks = false → ∀ A : Nat → Prop, (∀ q, s.heap.size ≤ q → A q) → va_K D vwCl tys s → va_P D vwCl w s.heap → va_D A w → va_S A s.heap s.heap [] → ∀ ls : Array Slot, lv_has ls L (lv_args 0 av) → W p l e rm s m av.toArray below meth c s.heap [] 0 0 (MQ below (QI D tys post f A) av.toArray s 0 0 A) (F0 m 0 ls [])) :
    Met l y (ws_ y b L (some ty)) rm (PW D tys w av sz) (QI D tys post f (va_A w sz)) 0 0 (va_A w sz) := by
  refine Met.ofW (cc := b) (maxL := L) (ret := (some ty)) hy rfl ?_
  intro p e s m args below meth c s₁ B hml hv
  obtain ⟨rfl, hsz, hP, hK, hD0⟩ := hv
  subst hsz
  have hts := atoms_spec (ws := ws_ y b L (some ty)) B.pre
  have hl := lv_entry av (n := L) hlen
  rw [lg_entry_eq]
  exact body p e s m below meth c ⟨B.exec, B.bytes, hml, findClass_of_methodNamed B.named, fun w h => hts w (List.mem_cons_of_mem _ h)⟩ B.returns B.notSynchronized (va_A w s.heap.size) (fun q h => Or.inr h) hK hP (hD0.self (sz := s.heap.size)) va_S.rf _ hl
theorem en_wv {l : Launch} {y : MethodName} {b : ByteArray} {L : Nat} {rm : Room} {D : va_G} {tys : List (ClassId × FieldType)} {w : va_W} {av : List Value} {sz : Nat} {S : Type} {post : S → Prop} {f : S → va_W} (hy : plainName y.cls = true) (hlen : (lg_sl av).length ≤ L)
    (body : ∀ (p : Program) (e : Env) (s : State) (m : MethodId) (below : List Frame) (meth : Method) (c : Code), CallFix p m c b L s av.toArray lw_all y.cls → meth.sig.returnType = none → meth.locks = false → ∀ A : Nat → Prop, (∀ q, s.heap.size ≤ q → A q) → va_K D vwCl tys s → va_P D vwCl w s.heap → va_D A w → va_S A s.heap s.heap [] → ∀ ls : Array Slot, lv_has ls L (lv_args 0 av) → W p l e rm s m av.toArray below meth c s.heap [] 0 0 (MQ below (QV D tys post f A) av.toArray s 0 0 A) (F0 m 0 ls [])) :
    Met l y (ws_ y b L none) rm (PW D tys w av sz) (QV D tys post f (va_A w sz)) 0 0 (va_A w sz) := by
  refine Met.ofW (cc := b) (maxL := L) (ret := none) hy rfl ?_
  intro p e s m args below meth c s₁ B hml hv
  obtain ⟨rfl, hsz, hP, hK, hD0⟩ := hv
  subst hsz
  have hts := atoms_spec (ws := ws_ y b L none) B.pre
  have hl := lv_entry av (n := L) hlen
  rw [lg_entry_eq]
  exact body p e s m below meth c ⟨B.exec, B.bytes, hml, findClass_of_methodNamed B.named, fun w h => hts w (List.mem_cons_of_mem _ h)⟩ B.returns B.notSynchronized (va_A w s.heap.size) (fun q h => Or.inr h) hK hP (hD0.self (sz := s.heap.size)) va_S.rf _ hl
abbrev xw (dB : ClassId) (ad : Nat → Nat) (P sz n0 n1 n2 kn fo : Nat) (ln wt sy qu ha tc : Nat → Nat) : va_W := [(ad 0, .inr (0, [.int (nI P), .ref (ad 1), .ref (ad 2), .ref (ad 3), .ref (ad 4), .int (nI sz), .ref (ad 5), .int (nI n0), .int (nI n1), .int (nI n2), .int (nI kn), .ref (ad 6), .int (nI fo)])), (ad 1, .inl (dB, 10, .inl (fun j => nI (ln j)))), (ad 2, .inl (dB, 10, .inl (fun j => nI (wt j)))), (ad 3, .inl (dB, 60, .inl (fun j => nI (sy j)))), (ad 4, .inl (dB, 6, .inl (fun j => nI (qu j)))), (ad 5, .inl (dB, 4, .inl (fun j => nI (ha j)))), (ad 6, .inl (dB, 10, .inl (fun j => nI (tc j))))]
abbrev mw (dI : ClassId) (bd : Nat → Nat) (sz : Nat) (ln sy wt qu co : Nat → Nat) : va_W := [(bd 0, .inr (1, [.ref (bd 1), .ref (bd 2), .ref (bd 3), .int (nI sz), .ref (bd 4), .ref (bd 5)])), (bd 1, .inl (dI, 10, .inl (fun j => nI (ln j)))), (bd 2, .inl (dI, 60, .inl (fun j => nI (sy j)))), (bd 3, .inl (dI, 10, .inl (fun j => nI (wt j)))), (bd 4, .inl (dI, 7, .inl (fun j => nI (qu j)))), (bd 5, .inl (dI, 49, .inl (fun j => nI (co j))))]
end
section
/-! the plain law: sets of places against a table of costs, ranking, common beginnings -/
set_option maxRecDepth 100000
-- ===== sets, counts, first places =====
def setOf (p : Nat → Bool) : Nat → Nat
  | 0 => 0
  | w + 1 => if p w then setOf p w ||| (1 <<< w) else setOf p w
theorem setOf_tb (p : Nat → Bool) (n i : Nat) : (setOf p n).testBit i = (decide (i < n) && p i) := by
  induction n with
  | zero => simp [setOf]
  | succ n ih =>
    by_cases h : p n = true
    · simp only [setOf, h, if_true, Nat.testBit_or, ih, Nat.one_shiftLeft, Nat.testBit_two_pow]
      by_cases hi : i = n
      · subst hi; simp [h]
      · have h1 : (decide (n = i)) = false := by simp; omega
        have h2 : (decide (i < n + 1)) = decide (i < n) := by
          by_cases h3 : i < n
          · simp [h3]; omega
          · simp [h3]; omega
        rw [h1, h2]; simp
    · have h : p n = false := by simpa using h
      have e : setOf p (n + 1) = setOf p n := by simp [setOf, h]
      rw [e, ih]
      by_cases hi : i = n
      · subst hi; simp [h]
      · have h2 : (decide (i < n + 1)) = decide (i < n) := by
          by_cases h3 : i < n
          · simp [h3]; omega
          · simp [h3]; omega
        rw [h2]
theorem tb_big {x n i : Nat} (h : x < 2 ^ n) (hi : n ≤ i) : x.testBit i = false := Nat.testBit_lt_two_pow (Nat.lt_of_lt_of_le h (Nat.pow_le_pow_right (by decide) hi))
theorem setOf_eq {p : Nat → Bool} {P n : Nat} (hP : P < 2 ^ n) (h : ∀ i, i < n → P.testBit i = p i) : P = setOf p n := by
  apply Nat.eq_of_testBit_eq
  intro i
  rw [setOf_tb]
  by_cases hi : i < n
  · rw [h i hi]; simp [hi]
  · rw [tb_big hP (Nat.le_of_not_lt hi)]; simp [hi]
theorem setOf_lt (p : Nat → Bool) (n : Nat) : setOf p n < 2 ^ n := by
  apply Nat.lt_pow_two_of_testBit
  intro i hi
  rw [setOf_tb]
  have : ¬ i < n := Nat.not_lt.mpr hi
  simp [this]
theorem setOf_congr {p q : Nat → Bool} {n : Nat} (h : ∀ i, i < n → p i = q i) : setOf p n = setOf q n := by
  apply setOf_eq (setOf_lt p n)
  intro i hi
  rw [setOf_tb, h i hi]; simp [hi]
theorem setOf_ne {p : Nat → Bool} {n : Nat} : setOf p n ≠ 0 ↔ ∃ i, i < n ∧ p i = true := by
  constructor
  · intro h
    apply Classical.byContradiction
    intro hc
    apply h
    apply Nat.eq_of_testBit_eq
    intro i
    rw [setOf_tb, Nat.zero_testBit]
    by_cases hi : i < n
    · cases hp : p i with
      | false => simp
      | true => exact absurd ⟨i, hi, hp⟩ hc
    · simp [hi]
  · rintro ⟨i, hi, hp⟩ h
    have := setOf_tb p n i
    rw [h, Nat.zero_testBit] at this
    simp [hi, hp] at this
def cntOf (p : Nat → Bool) : Nat → Nat
  | 0 => 0
  | w + 1 => cntOf p w + (p w).toNat
theorem cntOf_le (p : Nat → Bool) (n : Nat) : cntOf p n ≤ n := by
  induction n with
  | zero => exact Nat.le_refl 0
  | succ n ih =>
    have : (p n).toNat ≤ 1 := by cases p n <;> decide
    simp only [cntOf]; omega
theorem cntOf_congr {p q : Nat → Bool} {n : Nat} (h : ∀ i, i < n → p i = q i) : cntOf p n = cntOf q n := by
  induction n with
  | zero => rfl
  | succ n ih =>
    simp only [cntOf]
    rw [ih (fun i hi => h i (Nat.lt_succ_of_lt hi)), h n (Nat.lt_succ_self n)]
theorem cntOf_pos {p : Nat → Bool} {n : Nat} : 0 < cntOf p n ↔ ∃ i, i < n ∧ p i = true := by
  induction n with
  | zero => simp [cntOf]
  | succ n ih =>
    simp only [cntOf]
    constructor
    · intro h
      cases hp : p n with
      | true => exact ⟨n, Nat.lt_succ_self n, hp⟩
      | false =>
        rw [hp] at h
        obtain ⟨i, hi, h2⟩ := ih.mp h
        exact ⟨i, Nat.lt_succ_of_lt hi, h2⟩
    · rintro ⟨i, hi, hp⟩
      by_cases h : i = n
      · subst h; rw [hp]; simp
      · have := ih.mpr ⟨i, by omega, hp⟩
        omega
def isFst (p : Nat → Bool) (n w : Nat) : Prop := w < n ∧ p w = true ∧ ∀ v, v < w → p v = false
theorem isFst_u {p q : Nat → Bool} {n v w : Nat} (h : ∀ i, i < n → p i = q i) (hv : isFst p n v) (hw : isFst q n w) : v = w := by
  obtain ⟨h1, h2, h3⟩ := hv
  obtain ⟨g1, g2, g3⟩ := hw
  rcases Nat.lt_trichotomy v w with z | z | z
  · have := g3 v z; rw [← h v h1, h2] at this; cases this
  · exact z
  · have := h3 w z; rw [h w g1, g2] at this; cases this
theorem isFst_no {p q : Nat → Bool} {n v : Nat} (h : ∀ i, i < n → p i = q i) (hv : isFst p n v) (hw : ∀ i, i < n → q i = false) : False := by
  obtain ⟨h1, h2, h3⟩ := hv
  have := hw v h1
  rw [← h v h1, h2] at this; cases this
-- ===== the table of costs =====
def d0 : Nat → Nat
  | 0 => 0
  | j + 1 => min 100 (d0 j + 2)
def dn (r : Nat → Nat) (x : Nat) (s : Nat → Nat) (f : Nat) : Nat → Nat
  | 0 => min 100 (r 0 + f)
  | j + 1 => min (min (min 100 (r (j + 1) + f)) (dn r x s f j + 1)) (r j + if x = s j then 0 else f)
def fsC (i : Nat) : Nat := if i = 1 then 2 else 1
def dC (q s : Nat → Nat) : Nat → Nat → Nat
  | 0 => d0
  | i + 1 => dn (dC q s i) (q i) s (fsC (i + 1))
theorem dC_le (q s : Nat → Nat) (i j : Nat) : dC q s i j ≤ 100 := by
  cases i with
  | zero => cases j <;> simp [dC, d0]; omega
  | succ i => cases j <;> simp only [dC, dn] <;> omega
def eds (q s : Nat → Nat) (n : Nat) : Nat → Nat
  | 0 => min 100 (dC q s n 0)
  | k + 1 => min (eds q s n k) (dC q s n (k + 1))
theorem eds_le (q s : Nat → Nat) (n k : Nat) : eds q s n k ≤ 100 := by
  induction k with
  | zero => simp only [eds]; omega
  | succ k ih => simp only [eds]; omega
-- one step of the reference: what it puts into the cell (i, j)
def stF (co qu sy : Nat → Nat) (w i j : Nat) : Nat :=
  let l1 := if 0 < i then min 100 (co (7 * i - 7 + j) + fsC i) else 100
  let l2 := if 0 < j then min l1 (co (7 * i + j - 1) + if i = 0 then 2 else 1) else l1
  if 0 < i ∧ 0 < j then min l2 (co (7 * i + j - 8) + if qu (i - 1) = sy (6 * w + j - 1) then 0 else fsC i) else l2
theorem stF_le (co qu sy : Nat → Nat) (w i j : Nat) : stF co qu sy w i j ≤ 100 := by
  unfold stF
  dsimp only
  split <;> split <;> split <;> omega
/-- the cells before (i, j) hold the costs: then so does what the step puts there -/
theorem stF_dC {co qu sy : Nat → Nat} {w i j : Nat} (hij : ¬ (i = 0 ∧ j = 0)) (h1 : 0 < i → co (7 * (i - 1) + j) = dC qu (fun k => sy (6 * w + k)) (i - 1) j) (h2 : 0 < j → co (7 * i + (j - 1)) = dC qu (fun k => sy (6 * w + k)) i (j - 1)) (h3 : 0 < i → 0 < j → co (7 * (i - 1) + (j - 1)) = dC qu (fun k => sy (6 * w + k)) (i - 1) (j - 1)) : stF co qu sy w i j = dC qu (fun k => sy (6 * w + k)) i j := by
  cases i with
  | zero =>
    cases j with
    | zero => exact absurd ⟨rfl, rfl⟩ hij
    | succ j =>
      have e2 := h2 (Nat.succ_pos j)
      simp only [Nat.mul_zero, Nat.zero_add, Nat.add_sub_cancel, dC] at e2
      simp only [stF, dC, d0, Nat.lt_irrefl, if_false, Nat.succ_pos, if_true, false_and, Nat.mul_zero, Nat.zero_add, Nat.add_sub_cancel, e2]
  | succ i =>
    cases j with
    | zero =>
      have e1 : co (7 * i + 0) = dC qu (fun k => sy (6 * w + k)) i 0 := h1 (Nat.succ_pos i)
      have a1 : 7 * (i + 1) - 7 + 0 = 7 * i + 0 := by omega
      simp only [stF, dC, dn, Nat.lt_irrefl, if_false, Nat.succ_pos, if_true, and_false, a1, e1]
    | succ j =>
      have e1 : co (7 * i + (j + 1)) = dC qu (fun k => sy (6 * w + k)) i (j + 1) := h1 (Nat.succ_pos i)
      have e2 : co (7 * (i + 1) + j) = dC qu (fun k => sy (6 * w + k)) (i + 1) j := h2 (Nat.succ_pos j)
      have e3 : co (7 * i + j) = dC qu (fun k => sy (6 * w + k)) i j := h3 (Nat.succ_pos i) (Nat.succ_pos j)
      have a1 : 7 * (i + 1) - 7 + (j + 1) = 7 * i + (j + 1) := by omega
      have a2 : 7 * (i + 1) + (j + 1) - 1 = 7 * (i + 1) + j := by omega
      have a3 : 7 * (i + 1) + (j + 1) - 8 = 7 * i + j := by omega
      have a4 : 6 * w + (j + 1) - 1 = 6 * w + j := by omega
      have a5 : ¬ (i + 1 = 0) := by omega
      simp only [stF, Nat.succ_pos, if_true, and_self, a1, a2, a3, a4, a5, if_false, e1, e2, e3, Nat.add_sub_cancel]
      rfl
-- ===== the sets of places =====
/-- after j symbols: bit i of the three sets says whether cost 0, at most 1, at most 2 -/
def sInv (q s : Nat → Nat) (n j n0 n1 n2 : Nat) : Prop := ∀ i, i ≤ n → ((n0.testBit i = true ↔ dC q s i j = 0) ∧ ((n0.testBit i = true ∨ n1.testBit i = true) ↔ dC q s i j ≤ 1) ∧ ((n0.testBit i = true ∨ n1.testBit i = true ∨ n2.testBit i = true) ↔ dC q s i j ≤ 2))
def mvF (sz set : Nat) : Nat := (set &&& ((1 <<< sz) - 1)) &&& 4294967294
def mvT (sz set : Nat) : Nat := (set &&& ((1 <<< sz) - 1)) &&& 1
theorem tb_m2 (i : Nat) : (4294967294 : Nat).testBit i = (decide (0 < i) && decide (i < 32)) := by
  have h : (4294967294 : Nat) = (2 ^ 31 - 1) <<< 1 := by decide
  rw [h, Nat.testBit_shiftLeft, Nat.testBit_two_pow_sub_one]
  cases i with
  | zero => rfl
  | succ i => simp; omega
theorem tb_1 (i : Nat) : (1 : Nat).testBit i = decide (i = 0) := by
  have := Nat.testBit_two_pow (n := 0) (m := i)
  simp at this
  rw [this]
  by_cases h : i = 0
  · simp [h]
  · simp [h]; omega
theorem mvF_tb {sz set i : Nat} (h : sz ≤ 6) : (mvF sz set).testBit i = (set.testBit i && decide (i < sz) && decide (0 < i)) := by
  simp only [mvF, Nat.testBit_and, Nat.one_shiftLeft, Nat.testBit_two_pow_sub_one, tb_m2]
  by_cases h1 : i < sz
  · have : i < 32 := by omega
    simp [h1, this]
  · simp [h1]
theorem mvT_tb {sz set i : Nat} : (mvT sz set).testBit i = (set.testBit i && decide (i < sz) && decide (i = 0)) := by
  simp only [mvT, Nat.testBit_and, Nat.one_shiftLeft, Nat.testBit_two_pow_sub_one, tb_1]
def loO (sz n0 n1 : Nat) : Nat := n1 ||| (mvF sz n0 <<< 1)
def loT (sz n0 n1 n2 : Nat) : Nat := (n2 ||| (mvF sz (loO sz n0 n1) <<< 1)) ||| (mvT sz n0 <<< 1)
def adN (same n0 : Nat) : Nat := (n0 &&& same) <<< 1
def adO (sz same n0 n1 : Nat) : Nat := (((n1 &&& same) <<< 1) ||| (mvF sz n0 <<< 1)) ||| (n0 &&& 4294967294)
def adT (sz same n0 n1 n2 : Nat) : Nat := ((((n2 &&& same) <<< 1) ||| (mvF sz n1 <<< 1)) ||| (n1 &&& 4294967294)) ||| ((mvT sz n0 <<< 1) ||| (n0 &&& 1))
theorem tb_shl1 (x i : Nat) : (x <<< 1).testBit i = (decide (0 < i) && x.testBit (i - 1)) := by
  rw [Nat.testBit_shiftLeft]
  rfl
theorem loO_tb {sz n0 n1 i : Nat} (h : sz ≤ 6) : (loO sz n0 n1).testBit i = true ↔ (n1.testBit i = true ∨ (1 < i ∧ i ≤ sz ∧ n0.testBit (i - 1) = true)) := by
  simp only [loO, Nat.testBit_or, tb_shl1, mvF_tb h, Bool.or_eq_true, Bool.and_eq_true, decide_eq_true_eq]
  constructor
  · rintro (h1 | ⟨h1, ⟨h2, h3⟩, h4⟩)
    · exact Or.inl h1
    · exact Or.inr ⟨by omega, by omega, h2⟩
  · rintro (h1 | ⟨h1, h2, h3⟩)
    · exact Or.inl h1
    · exact Or.inr ⟨by omega, ⟨h3, by omega⟩, by omega⟩
theorem loT_tb {sz n0 n1 n2 i : Nat} (h : sz ≤ 6) : (loT sz n0 n1 n2).testBit i = true ↔ (n2.testBit i = true ∨ (1 < i ∧ i ≤ sz ∧ (loO sz n0 n1).testBit (i - 1) = true) ∨ (i = 1 ∧ 1 ≤ sz ∧ n0.testBit 0 = true)) := by
  simp only [loT, Nat.testBit_or, tb_shl1, mvF_tb h, mvT_tb, Bool.or_eq_true, Bool.and_eq_true, decide_eq_true_eq]
  constructor
  · rintro ((h1 | ⟨h1, ⟨h2, h3⟩, h4⟩) | ⟨h1, ⟨h2, h3⟩, h4⟩)
    · exact Or.inl h1
    · exact Or.inr (Or.inl ⟨by omega, by omega, h2⟩)
    · refine Or.inr (Or.inr ⟨by omega, by omega, ?_⟩)
      rw [h4] at h2; exact h2
  · rintro (h1 | ⟨h1, h2, h3⟩ | ⟨h1, h2, h3⟩)
    · exact Or.inl (Or.inl h1)
    · exact Or.inl (Or.inr ⟨by omega, ⟨h3, by omega⟩, by omega⟩)
    · subst h1
      exact Or.inr ⟨by omega, ⟨h3, by omega⟩, by omega⟩
theorem adN_tb {same n0 i : Nat} : (adN same n0).testBit i = true ↔ (0 < i ∧ n0.testBit (i - 1) = true ∧ same.testBit (i - 1) = true) := by
  simp only [adN, tb_shl1, Nat.testBit_and, Bool.and_eq_true, decide_eq_true_eq]
theorem adO_tb {sz same n0 n1 i : Nat} (h : sz ≤ 6) (hi : i ≤ sz) : (adO sz same n0 n1).testBit i = true ↔ ((0 < i ∧ n1.testBit (i - 1) = true ∧ same.testBit (i - 1) = true) ∨ (1 < i ∧ n0.testBit (i - 1) = true) ∨ (0 < i ∧ n0.testBit i = true)) := by
  simp only [adO, Nat.testBit_or, tb_shl1, mvF_tb h, Nat.testBit_and, tb_m2, Bool.or_eq_true, Bool.and_eq_true, decide_eq_true_eq]
  constructor
  · rintro ((⟨h1, h2, h3⟩ | ⟨h1, ⟨h2, h3⟩, h4⟩) | ⟨h1, h2, h3⟩)
    · exact Or.inl ⟨h1, h2, h3⟩
    · exact Or.inr (Or.inl ⟨by omega, h2⟩)
    · exact Or.inr (Or.inr ⟨h2, h1⟩)
  · rintro (⟨h1, h2, h3⟩ | ⟨h1, h2⟩ | ⟨h1, h2⟩)
    · exact Or.inl (Or.inl ⟨h1, h2, h3⟩)
    · exact Or.inl (Or.inr ⟨by omega, ⟨h2, by omega⟩, by omega⟩)
    · exact Or.inr ⟨h2, h1, by omega⟩
theorem adT_tb {sz same n0 n1 n2 i : Nat} (h : sz ≤ 6) (hi : i ≤ sz) : (adT sz same n0 n1 n2).testBit i = true ↔ ((0 < i ∧ n2.testBit (i - 1) = true ∧ same.testBit (i - 1) = true) ∨ (1 < i ∧ n1.testBit (i - 1) = true) ∨ (0 < i ∧ n1.testBit i = true) ∨ (i = 1 ∧ n0.testBit 0 = true) ∨ (i = 0 ∧ n0.testBit 0 = true)) := by
  simp only [adT, Nat.testBit_or, tb_shl1, mvF_tb h, mvT_tb, Nat.testBit_and, tb_m2, tb_1, Bool.or_eq_true, Bool.and_eq_true, decide_eq_true_eq]
  constructor
  · rintro (((⟨h1, h2, h3⟩ | ⟨h1, ⟨h2, h3⟩, h4⟩) | ⟨h1, h2, h3⟩) | (⟨h1, ⟨h2, h3⟩, h4⟩ | ⟨h1, h2⟩))
    · exact Or.inl ⟨h1, h2, h3⟩
    · exact Or.inr (Or.inl ⟨by omega, h2⟩)
    · exact Or.inr (Or.inr (Or.inl ⟨h2, h1⟩))
    · refine Or.inr (Or.inr (Or.inr (Or.inl ⟨by omega, ?_⟩)))
      rw [h4] at h2; exact h2
    · refine Or.inr (Or.inr (Or.inr (Or.inr ⟨h2, ?_⟩)))
      rw [h2] at h1; exact h1
  · rintro (⟨h1, h2, h3⟩ | ⟨h1, h2⟩ | ⟨h1, h2⟩ | ⟨h1, h2⟩ | ⟨h1, h2⟩)
    · exact Or.inl (Or.inl (Or.inl ⟨h1, h2, h3⟩))
    · exact Or.inl (Or.inl (Or.inr ⟨by omega, ⟨h2, by omega⟩, by omega⟩))
    · exact Or.inl (Or.inr ⟨h2, h1, by omega⟩)
    · subst h1
      exact Or.inr (Or.inl ⟨by omega, ⟨h2, by omega⟩, by omega⟩)
    · subst h1
      exact Or.inr (Or.inr ⟨h2, rfl⟩)
theorem dC_col0 (q s : Nat → Nat) (i : Nat) : dC q s (i + 1) 0 = min 100 (i + 2) := by
  induction i with
  | zero => rfl
  | succ i ih =>
    show min 100 (dC q s (i + 1) 0 + fsC (i + 1 + 1)) = _
    have h : fsC (i + 1 + 1) = 1 := by unfold fsC; rw [if_neg (by omega)]
    rw [ih, h]; omega
theorem sInv_0 (q s : Nat → Nat) {n : Nat} (hn : n ≤ 6) : sInv q s n 0 1 (loO n 1 0) (loT n 1 0 0) := by
  intro i hi
  have e0 : (1 : Nat).testBit i = true ↔ i = 0 := by rw [tb_1]; simp
  have e1 : (loO n 1 0).testBit i = true ↔ False := by
    rw [loO_tb hn, tb_1, Nat.zero_testBit]
    simp
    omega
  have e2 : (loT n 1 0 0).testBit i = true ↔ i = 1 := by
    rw [loT_tb hn, loO_tb hn, tb_1, tb_1, Nat.zero_testBit, Nat.zero_testBit]
    simp
    omega
  rw [e0, e1, e2]
  cases i with
  | zero => simp [dC, d0]
  | succ i =>
    rw [dC_col0]
    simp only [false_or, or_false]
    refine ⟨?_, ?_, ?_⟩
    · omega
    · omega
    · omega
theorem cellStep {a b c D f i : Nat} {e p0 p1 p2 r0 r1 r2 N O : Prop} (hf : (i = 0 ∧ f = 2) ∨ (0 < i ∧ f = 1)) (hc0 : p0 ↔ c = 0) (hc1 : p0 ∨ p1 ↔ c ≤ 1) (hc2 : p0 ∨ p1 ∨ p2 ↔ c ≤ 2) (hb0 : r0 ↔ b = 0) (hb1 : r0 ∨ r1 ↔ b ≤ 1) (ha0 : N ↔ a = 0) (ha1 : N ∨ O ↔ a ≤ 1) (z : Nat) (hz : (e ∧ z = 0) ∨ (¬ e ∧ z = f)) (hD : D = min (min (min 100 (a + f)) (b + 1)) (c + z)) :
    (p0 ∧ e ↔ D = 0) ∧ ((p0 ∧ e) ∨ ((p1 ∧ e) ∨ (0 < i ∧ p0) ∨ r0 ∨ (0 < i ∧ N)) ↔ D ≤ 1) ∧ ((p0 ∧ e) ∨ ((p1 ∧ e) ∨ (0 < i ∧ p0) ∨ r0 ∨ (0 < i ∧ N)) ∨ ((p2 ∧ e) ∨ (0 < i ∧ p1) ∨ r1 ∨ (i = 0 ∧ p0) ∨ (0 < i ∧ O) ∨ (i = 0 ∧ N)) ↔ D ≤ 2) := by
  have k0 := propext hc0
  have k1 := propext hb0
  have k2 := propext ha0
  subst k0 k1 k2
  rcases hz with ⟨he, hz⟩ | ⟨he, hz⟩ <;> by_cases q1 : p1 <;> by_cases q2 : p2 <;> by_cases q3 : r1 <;> by_cases q4 : O <;> simp only [he, q1, q2, q3, q4, or_true, or_false, true_or, false_or, and_true, and_false, true_and, false_and, true_iff, iff_true, false_iff, iff_false] at hc1 hc2 hb1 ha1 ⊢ <;> omega
theorem sInv_s {q s : Nat → Nat} {n j n0 n1 n2 same : Nat} (hn : n ≤ 6) (hs : ∀ i, same.testBit i = (decide (i < n) && decide (q i = s j))) (h : sInv q s n j n0 n1 n2) : sInv q s n (j + 1) (adN same n0) (loO n (adN same n0) (adO n same n0 n1)) (loT n (adN same n0) (adO n same n0 n1) (adT n same n0 n1 n2)) := by
  intro i
  induction i with
  | zero =>
    intro _
    obtain ⟨g0, -, -⟩ := h 0 (Nat.zero_le _)
    rw [loT_tb hn, loO_tb hn, adN_tb, adO_tb hn (Nat.zero_le _), adT_tb hn (Nat.zero_le _)]
    have e : dC q s 0 (j + 1) = min 100 (dC q s 0 j + 2) := rfl
    rw [e]
    rw [g0]
    refine ⟨?_, ?_, ?_⟩
    · simp <;> omega
    · simp <;> omega
    · simp <;> omega
  | succ i ih =>
    intro hi
    have hi0 : i ≤ n := by omega
    obtain ⟨c0, c1, c2⟩ := h i hi0
    obtain ⟨b0, b1, b2⟩ := h (i + 1) hi
    obtain ⟨a0, a1, a2⟩ := ih hi0
    have hs1 : same.testBit i = true ↔ q i = s j := by
      rw [hs]
      have : i < n := by omega
      simp [this]
    have key := cellStep (f := fsC (i + 1)) (i := i) (e := q i = s j) (by unfold fsC; by_cases z : i = 0 <;> simp [z] <;> omega) c0 c1 c2 b0 b1 a0 a1 (r2 := True) (if q i = s j then 0 else fsC (i + 1)) (by by_cases z : q i = s j <;> simp [z]) (D := dC q s (i + 1) (j + 1)) rfl
    obtain ⟨k0, k1, k2⟩ := key
    have t1 : (adN same n0).testBit (i + 1) = true ↔ (n0.testBit i = true ∧ q i = s j) := by
      rw [adN_tb, Nat.add_sub_cancel, hs1]
      simp
    have t2 : (loO n (adN same n0) (adO n same n0 n1)).testBit (i + 1) = true ↔ ((n1.testBit i = true ∧ q i = s j) ∨ (0 < i ∧ n0.testBit i = true) ∨ n0.testBit (i + 1) = true ∨ (0 < i ∧ (adN same n0).testBit i = true)) := by
      rw [loO_tb hn, adO_tb hn hi, Nat.add_sub_cancel, hs1]
      constructor
      · rintro ((⟨x1, x2, x3⟩ | ⟨x1, x2⟩ | ⟨x1, x2⟩) | ⟨x1, x2, x3⟩)
        · exact Or.inl ⟨x2, x3⟩
        · exact Or.inr (Or.inl ⟨by omega, x2⟩)
        · exact Or.inr (Or.inr (Or.inl x2))
        · exact Or.inr (Or.inr (Or.inr ⟨by omega, x3⟩))
      · rintro (⟨x1, x2⟩ | ⟨x1, x2⟩ | x1 | ⟨x1, x2⟩)
        · exact Or.inl (Or.inl ⟨by omega, x1, x2⟩)
        · exact Or.inl (Or.inr (Or.inl ⟨by omega, x2⟩))
        · exact Or.inl (Or.inr (Or.inr ⟨by omega, x1⟩))
        · exact Or.inr ⟨by omega, hi, x2⟩
    have t3 : (loT n (adN same n0) (adO n same n0 n1) (adT n same n0 n1 n2)).testBit (i + 1) = true ↔ ((n2.testBit i = true ∧ q i = s j) ∨ (0 < i ∧ n1.testBit i = true) ∨ n1.testBit (i + 1) = true ∨ (i = 0 ∧ n0.testBit i = true) ∨ (0 < i ∧ (loO n (adN same n0) (adO n same n0 n1)).testBit i = true) ∨ (i = 0 ∧ (adN same n0).testBit i = true)) := by
      rw [loT_tb hn, adT_tb hn hi, Nat.add_sub_cancel, hs1]
      constructor
      · rintro ((⟨x1, x2, x3⟩ | ⟨x1, x2⟩ | ⟨x1, x2⟩ | ⟨x1, x2⟩ | ⟨x1, x2⟩) | ⟨x1, x2, x3⟩ | ⟨x1, x2, x3⟩)
        · exact Or.inl ⟨x2, x3⟩
        · exact Or.inr (Or.inl ⟨by omega, x2⟩)
        · exact Or.inr (Or.inr (Or.inl x2))
        · have : i = 0 := by omega
          subst this
          exact Or.inr (Or.inr (Or.inr (Or.inl ⟨rfl, x2⟩)))
        · omega
        · exact Or.inr (Or.inr (Or.inr (Or.inr (Or.inl ⟨by omega, x3⟩))))
        · have : i = 0 := by omega
          subst this
          exact Or.inr (Or.inr (Or.inr (Or.inr (Or.inr ⟨rfl, x3⟩))))
      · rintro (⟨x1, x2⟩ | ⟨x1, x2⟩ | x1 | ⟨x1, x2⟩ | ⟨x1, x2⟩ | ⟨x1, x2⟩)
        · exact Or.inl (Or.inl ⟨by omega, x1, x2⟩)
        · exact Or.inl (Or.inr (Or.inl ⟨by omega, x2⟩))
        · exact Or.inl (Or.inr (Or.inr (Or.inl ⟨by omega, x1⟩)))
        · subst x1
          exact Or.inl (Or.inr (Or.inr (Or.inr (Or.inl ⟨by omega, x2⟩))))
        · exact Or.inr (Or.inl ⟨by omega, hi, x2⟩)
        · subst x1
          exact Or.inr (Or.inr ⟨by omega, by omega, x2⟩)
    rw [t1, t2, t3]
    exact ⟨k0, k1, k2⟩
def rcF (sz n0 n1 n2 : Nat) : Nat := if n0.testBit sz = true then 0 else if n1.testBit sz = true then 1 else if n2.testBit sz = true then 2 else 3
theorem rcF_s {q s : Nat → Nat} {n j n0 n1 n2 : Nat} (h : sInv q s n j n0 n1 n2) : rcF n n0 n1 n2 = min (dC q s n j) 3 := by
  obtain ⟨c0, c1, c2⟩ := h n (Nat.le_refl n)
  unfold rcF
  by_cases h0 : n0.testBit n = true
  · rw [if_pos h0, c0.mp h0]; rfl
  · rw [if_neg h0]
    have g0 : ¬ dC q s n j = 0 := fun z => h0 (c0.mpr z)
    by_cases h1 : n1.testBit n = true
    · rw [if_pos h1]
      have := c1.mp (Or.inr h1)
      omega
    · rw [if_neg h1]
      have g1 : ¬ dC q s n j ≤ 1 := fun z => by rcases c1.mpr z with y | y; exact h0 y; exact h1 y
      by_cases h2 : n2.testBit n = true
      · rw [if_pos h2]
        have := c2.mp (Or.inr (Or.inr h2))
        omega
      · rw [if_neg h2]
        have g2 : ¬ dC q s n j ≤ 2 := fun z => by rcases c2.mpr z with y | y | y; exact h0 y; exact h1 y; exact h2 y
        omega
theorem and_bit (x k : Nat) : (x &&& (1 <<< k) = 0) ↔ x.testBit k = false := by
  constructor
  · intro h
    have := congrArg (fun z => Nat.testBit z k) h
    simp only [Nat.testBit_and, Nat.one_shiftLeft, Nat.testBit_two_pow, Nat.zero_testBit] at this
    simpa using this
  · intro h
    apply Nat.eq_of_testBit_eq
    intro i
    rw [Nat.testBit_and, Nat.one_shiftLeft, Nat.testBit_two_pow, Nat.zero_testBit]
    by_cases hi : k = i
    · subst hi; rw [h]; rfl
    · simp [hi]
/-- where each symbol stands in the first i of the query -/
def hvI (qu : Nat → Nat) (i : Nat) (ha : Nat → Nat) : Prop := ∀ s, s < 4 → ha s < 2 ^ i ∧ ∀ k, (ha s).testBit k = (decide (k < i) && decide (qu k = s))
theorem hvI_0 {qu ha : Nat → Nat} (h : ∀ s, s < 4 → ha s = 0) : hvI qu 0 ha := by
  intro s hs
  rw [h s hs]
  exact ⟨by decide, fun k => by simp⟩
theorem hvI_s {qu ha : Nat → Nat} {i : Nat} (h : hvI qu i ha) (hq : qu i < 4) : hvI qu (i + 1) (upN ha (qu i) (ha (qu i) ||| 1 <<< i)) := by
  intro s hs
  by_cases e : s = qu i
  · subst e
    rw [upN_s]
    obtain ⟨h1, h2⟩ := h (qu i) hs
    constructor
    · apply Nat.or_lt_two_pow
      · exact Nat.lt_of_lt_of_le h1 (Nat.pow_le_pow_right (by decide) (Nat.le_succ i))
      · rw [Nat.one_shiftLeft]; exact Nat.pow_lt_pow_right (by decide) (Nat.lt_succ_self i)
    · intro k
      rw [Nat.testBit_or, h2, Nat.one_shiftLeft, Nat.testBit_two_pow]
      by_cases hk : i = k
      · subst hk; simp
      · by_cases hk2 : k < i
        · simp [hk, hk2]; omega
        · simp [hk, hk2]; omega
  · rw [upN_n e]
    obtain ⟨h1, h2⟩ := h s hs
    refine ⟨Nat.lt_of_lt_of_le h1 (Nat.pow_le_pow_right (by decide) (Nat.le_succ i)), fun k => ?_⟩
    rw [h2]
    by_cases hk : k = i
    · subst hk
      have : ¬ qu k = s := fun z => e z.symm
      simp [this]
    · by_cases hk2 : k < i
      · simp [hk2]; omega
      · have : ¬ k < i + 1 := by omega
        simp [hk2, this]
-- ===== found, cached =====
def edt (qu sy : Nat → Nat) (sz l w : Nat) : Nat := eds qu (fun k => sy (6 * w + k)) sz l
def fg (n : Nat) : Nat := if n < 3 then 0 else if n < 5 then 1 else 2
theorem fg_le (n : Nat) : fg n ≤ 2 := by unfold fg; split; omega; split <;> omega
def fdX (P sz : Nat) (ln sy qu : Nat → Nat) (w : Nat) : Bool := P.testBit w && decide (edt qu sy sz (ln w) w ≤ fg sz)
def fdM (sz : Nat) (ln sy qu : Nat → Nat) (w : Nat) : Bool := decide (0 < ln w) && decide (edt qu sy sz (ln w) w ≤ fg sz)
def tcOk (P sz : Nat) (ln sy qu tc : Nat → Nat) (b : Nat) : Prop := ∀ w, w < b → P.testBit w = true → tc w = min (edt qu sy sz (ln w) w) 3
def cok (P sz : Nat) (ln sy qu tc : Nat → Nat) (fo : Nat) : Prop := fo = setOf (fdX P sz ln sy qu) 10 ∧ tcOk P sz ln sy qu tc 10
def xI (P sz : Nat) (ln wt sy qu : Nat → Nat) : Prop := P < 1024 ∧ sz ≤ 6 ∧ (∀ j, ln j ≤ 6) ∧ (∀ j, wt j ≤ 9) ∧ (∀ j, sy j < 4) ∧ (∀ j, qu j < 4)
def xS (P sz : Nat) (ln sy qu tc : Nat → Nat) (kn fo : Nat) : Prop := kn ≤ 1 ∧ (∀ j, tc j ≤ 3) ∧ (kn = 1 → cok P sz ln sy qu tc fo)
def mI (sz : Nat) (ln wt sy qu : Nat → Nat) : Prop := sz ≤ 6 ∧ (∀ j, ln j ≤ 6) ∧ (∀ j, wt j ≤ 9) ∧ (∀ j, sy j < 4) ∧ (∀ j, qu j < 4)
def exB (sz : Nat) (ln sy qu : Nat → Nat) (w : Nat) : Bool := decide (ln w = sz ∧ ∀ k, k < sz → sy (6 * w + k) = qu k)
def gb (x y : Nat) (a b : Bool) (lv lw wv ww v w : Nat) : Bool := if x = y then (if a = b then (if lv = lw then (if wv = ww then decide (v < w) else decide (ww < wv)) else decide (lv < lw)) else a) else decide (x < y)
def plF (fd : Nat → Bool) (ed : Nat → Nat) (ex : Nat → Bool) (ln wt : Nat → Nat) (w : Nat) : Nat := cntOf (fun v => decide (v ≠ w) && (fd v && gb (ed v) (ed w) (ex v) (ex w) (ln v) (ln w) (wt v) (wt w) v w)) 10
def edX (sz : Nat) (ln sy qu : Nat → Nat) (w : Nat) : Nat := edt qu sy sz (ln w) w
/-- the place of a found word -/
def plX (P sz : Nat) (ln wt sy qu : Nat → Nat) (w : Nat) : Nat := plF (fdX P sz ln sy qu) (edX sz ln sy qu) (exB sz ln sy qu) ln wt w
def plM (sz : Nat) (ln wt sy qu : Nat → Nat) (w : Nat) : Nat := plF (fdM sz ln sy qu) (edX sz ln sy qu) (exB sz ln sy qu) ln wt w
theorem plF_le (fd : Nat → Bool) (ed : Nat → Nat) (ex : Nat → Bool) (ln wt : Nat → Nat) (w : Nat) : plF fd ed ex ln wt w ≤ 10 := cntOf_le _ _
/-- the query as the hints leave it -/
def hq (qu : Nat → Nat) (sz : Nat) : Nat → Nat → Nat
  | 0 => qu
  | s + 1 => upN (hq qu sz s) sz s
theorem hq_lt {qu : Nat → Nat} {sz : Nat} (h : ∀ j, qu j < 4) : ∀ s, s ≤ 4 → ∀ j, hq qu sz s j < 4 := by
  intro s
  induction s with
  | zero => intro _; exact h
  | succ s ih => intro hs; exact upN_lt (ih (by omega)) (by omega)
def cmn (b : Nat) (fd : Nat → Bool) (ln sy : Nat → Nat) (n : Nat) : Prop := (∀ v, v < b → fd v = true → n ≤ ln v) ∧ ∀ v w, v < b → w < b → fd v = true → fd w = true → ∀ k, k < n → sy (6 * v + k) = sy (6 * w + k)
/-- n is the number of symbols that the found words below b have in common -/
def cmR (b : Nat) (fd : Nat → Bool) (ln sy : Nat → Nat) (n : Nat) : Prop := ((∀ v, v < b → fd v = false) ∧ n = 0) ∨ ((∃ v, v < b ∧ fd v = true) ∧ cmn b fd ln sy n ∧ ¬ cmn b fd ln sy (n + 1))
theorem cmn_down {b : Nat} {fd : Nat → Bool} {ln sy : Nat → Nat} {n k : Nat} (h : cmn b fd ln sy n) (hk : k ≤ n) : cmn b fd ln sy k := ⟨fun v hv hf => Nat.le_trans hk (h.1 v hv hf), fun v w hv hw f1 f2 j hj => h.2 v w hv hw f1 f2 j (Nat.lt_of_lt_of_le hj hk)⟩
theorem cmR_u {b : Nat} {fd gd : Nat → Bool} {ln lm sy : Nat → Nat} {n k : Nat} (hf : ∀ v, v < b → fd v = gd v) (hl : ∀ v, v < b → fd v = true → ln v = lm v) (h1 : cmR b fd ln sy n) (h2 : cmR b gd lm sy k) : n = k := by
  have tr : ∀ j, cmn b fd ln sy j ↔ cmn b gd lm sy j := by
    intro j
    constructor
    · intro h
      exact ⟨fun v hv hg => by rw [← hl v hv (by rw [hf v hv]; exact hg)]; exact h.1 v hv (by rw [hf v hv]; exact hg), fun v w hv hw g1 g2 => h.2 v w hv hw (by rw [hf v hv]; exact g1) (by rw [hf w hw]; exact g2)⟩
    · intro h
      exact ⟨fun v hv hg => by rw [hl v hv hg]; exact h.1 v hv (by rw [← hf v hv]; exact hg), fun v w hv hw g1 g2 => h.2 v w hv hw (by rw [← hf v hv]; exact g1) (by rw [← hf w hw]; exact g2)⟩
  rcases h1 with ⟨a1, a2⟩ | ⟨⟨v, hv, hfv⟩, a2, a3⟩
  · rcases h2 with ⟨b1, b2⟩ | ⟨⟨v, hv, hfv⟩, b2, b3⟩
    · rw [a2, b2]
    · rw [← hf v hv, a1 v hv] at hfv; cases hfv
  · rcases h2 with ⟨b1, b2⟩ | ⟨⟨w, hw, hfw⟩, b2, b3⟩
    · rw [hf v hv, b1 v hv] at hfv; cases hfv
    · rcases Nat.lt_trichotomy n k with z | z | z
      · exact absurd ((tr (n + 1)).mpr (cmn_down b2 z)) a3
      · exact z
      · exact absurd ((tr (k + 1)).mp (cmn_down a2 z)) b3
/-- the beginning that two words have in common -/
def lcR (ln sy : Nat → Nat) (v w l : Nat) : Prop := l ≤ ln v ∧ l ≤ ln w ∧ (∀ k, k < l → sy (6 * v + k) = sy (6 * w + k)) ∧ (l = ln v ∨ l = ln w ∨ sy (6 * v + l) ≠ sy (6 * w + l))
end
section
set_option maxRecDepth 100000
-- ===== numbers that come from outside =====
theorem rg_ex {w : Int32} {n : Nat} (hn : n < 2 ^ 31) (h1 : ¬ w < 0) (h2 : ¬ nI n ≤ w) : ∃ j, j < n ∧ w = nI j := by
  rcases pk_ix w hn with h | h | h
  · exact absurd h h1
  · exact absurd h h2
  · exact h
theorem rg_le {w : Int32} {n : Nat} (hn : n < 2 ^ 30) (h1 : ¬ w < 0) (h2 : w ≤ nI n) : ∃ j, j ≤ n ∧ w = nI j := nI_of2 (nI_toInt (by omega)) h1 h2
theorem rg_neg {w : Int32} (h : w < 0) : w.toInt < 0 := by
  rw [Int32.lt_iff_toInt_lt] at h
  simpa using h
theorem rg_nneg {w : Int32} (h : ¬ w < 0) : 0 ≤ w.toInt := by
  rw [Int32.lt_iff_toInt_lt] at h
  have : ¬ w.toInt < 0 := by simpa using h
  omega
theorem rg_big {w : Int32} {n : Nat} (hn : n < 2 ^ 31) (h : nI n ≤ w) : (n : Int) ≤ w.toInt := by
  rw [Int32.le_iff_toInt_le, nI_toInt hn] at h; exact h
theorem rg_gt {w : Int32} {n : Nat} (hn : n < 2 ^ 31) (h : ¬ w ≤ nI n) : (n : Int) < w.toInt := by
  rw [Int32.le_iff_toInt_le, nI_toInt hn] at h; omega
theorem rg_lt {w : Int32} {n : Nat} (hn : n < 2 ^ 31) (h : nI n < w) : (n : Int) < w.toInt := by
  rw [Int32.lt_iff_toInt_lt, nI_toInt hn] at h; exact h
/-- the number is below n, and its place holds p -/
def inF (n : Nat) (p : Nat → Bool) (w : Int32) : Bool := decide (0 ≤ w.toInt ∧ w.toInt < n) && p w.toInt.toNat
theorem inF_n {n j : Nat} {p : Nat → Bool} (h : j < n) (hn : n < 2 ^ 31) : inF n p (nI j) = p j := by
  have e : (nI j).toInt = (j : Int) := nI_toInt (by omega)
  unfold inF
  rw [e, decide_eq_true ⟨by omega, by omega⟩]
  simp
theorem inF_lo {n : Nat} {p : Nat → Bool} {w : Int32} (h : w.toInt < 0) : inF n p w = false := by
  unfold inF; rw [decide_eq_false (by omega)]; rfl
theorem inF_hi {n : Nat} {p : Nat → Bool} {w : Int32} (h : (n : Int) ≤ w.toInt) : inF n p w = false := by
  unfold inF; rw [decide_eq_false (by omega)]; rfl
theorem inF_ex {n : Nat} {p : Nat → Bool} {w : Int32} (h : inF n p w = true) : ∃ j, j < n ∧ w = nI j ∧ p j = true := by
  unfold inF at h
  rw [Bool.and_eq_true, decide_eq_true_eq] at h
  refine ⟨w.toInt.toNat, by omega, ?_, h.2⟩
  apply Int32.toInt_inj.mp
  have hlt : w.toInt < 2 ^ 31 := by have := Int32.toInt_lt w; omega
  rw [nI_toInt (by omega)]; omega
theorem inF_congr {n : Nat} {p q : Nat → Bool} (h : ∀ j, j < n → p j = q j) (w : Int32) : inF n p w = inF n q w := by
  unfold inF
  by_cases hw : 0 ≤ w.toInt ∧ w.toInt < n
  · rw [h _ (by omega)]
  · rw [decide_eq_false hw]; rfl
def hsF (P : Nat) (w : Int32) : Bool := inF 10 (fun j => P.testBit j) w
def isB (ln : Nat → Nat) (w : Nat) : Bool := decide (0 < ln w)
def isF (ln : Nat → Nat) (w : Int32) : Bool := inF 10 (isB ln) w
def smF (s : Int32) : Bool := inF 4 (fun _ => true) s
theorem hsF_n {P j : Nat} (h : j < 10) : hsF P (nI j) = P.testBit j := inF_n h (by decide)
theorem isF_n {ln : Nat → Nat} {j : Nat} (h : j < 10) : isF ln (nI j) = isB ln j := inF_n h (by decide)
theorem smF_n {j : Nat} (h : j < 4) : smF (nI j) = true := inF_n h (by decide)
-- ===== reads of bits =====
theorem one_sh_pos (k : Nat) : 1 ≤ 1 <<< k := by rw [Nat.one_shiftLeft]; exact Nat.one_le_two_pow
theorem one_sh_le {k : Nat} (h : k ≤ 6) : 1 <<< k ≤ 64 := by
  rw [Nat.one_shiftLeft]
  have := Nat.pow_le_pow_right (n := 2) (by decide) h
  exact this
theorem one_sh_le10 {k : Nat} (h : k < 10) : 1 <<< k ≤ 512 := by
  rw [Nat.one_shiftLeft]
  have : 2 ^ k ≤ 2 ^ 9 := Nat.pow_le_pow_right (n := 2) (by decide) (by omega)
  exact this
theorem ab_lt {x k : Nat} (h : k ≤ 6) : x &&& (1 <<< k) < 2 ^ 31 := by
  have h1 : x &&& (1 <<< k) ≤ 1 <<< k := Nat.and_le_right
  have h2 := one_sh_le h
  omega
theorem rc3 {sz n0 n1 n2 : Nat} (h0 : n0 &&& (1 <<< sz) = 0) (h1 : n1 &&& (1 <<< sz) = 0) (h2 : n2 &&& (1 <<< sz) = 0) : 3 = rcF sz n0 n1 n2 := by
  unfold rcF
  rw [(and_bit _ _).mp h0, (and_bit _ _).mp h1, (and_bit _ _).mp h2]; rfl
theorem rc2 {sz n0 n1 n2 : Nat} (h0 : n0 &&& (1 <<< sz) = 0) (h1 : n1 &&& (1 <<< sz) = 0) (h2 : n2 &&& (1 <<< sz) ≠ 0) : 2 = rcF sz n0 n1 n2 := by
  unfold rcF
  rw [(and_bit _ _).mp h0, (and_bit _ _).mp h1, if_pos (nv_nf (fun z => h2 ((and_bit _ _).mpr z)))]; rfl
theorem rc1 {sz n0 n1 n2 : Nat} (h0 : n0 &&& (1 <<< sz) = 0) (h1 : n1 &&& (1 <<< sz) ≠ 0) : 1 = rcF sz n0 n1 n2 := by
  unfold rcF
  rw [(and_bit _ _).mp h0, if_pos (nv_nf (fun z => h1 ((and_bit _ _).mpr z)))]; rfl
theorem rc0 {sz n0 n1 n2 : Nat} (h0 : n0 &&& (1 <<< sz) ≠ 0) : 0 = rcF sz n0 n1 n2 := by
  unfold rcF
  rw [if_pos (nv_nf (fun z => h0 ((and_bit _ _).mpr z)))]
theorem rcF_le (sz n0 n1 n2 : Nat) : rcF sz n0 n1 n2 ≤ 3 := by unfold rcF; split; omega; split; omega; split <;> omega
def mvB (sz st : Nat) (b : Bool) : Nat := match b with
  | true => mvT sz st
  | false => mvF sz st
theorem exB_t {sz : Nat} {ln sy qu : Nat → Nat} {w : Nat} (h1 : ln w = sz) (h2 : ∀ k, k < sz → sy (6 * w + k) = qu k) : exB sz ln sy qu w = true := decide_eq_true ⟨h1, h2⟩
theorem exB_f1 {sz : Nat} {ln sy qu : Nat → Nat} {w : Nat} (h1 : ln w ≠ sz) : exB sz ln sy qu w = false := decide_eq_false (fun z => h1 z.1)
theorem exB_f2 {sz : Nat} {ln sy qu : Nat → Nat} {w k : Nat} (hk : k < sz) (h1 : sy (6 * w + k) ≠ qu k) : exB sz ln sy qu w = false := decide_eq_false (fun z => h1 (z.2 k hk))
/-- a beginning that two words share, up to a most -/
def shR (ln sy : Nat → Nat) (v w mo l : Nat) : Prop := l ≤ mo ∧ l ≤ ln w ∧ (∀ k, k < l → sy (6 * v + k) = sy (6 * w + k)) ∧ (l = mo ∨ l = ln w ∨ sy (6 * v + l) ≠ sy (6 * w + l))
section NV2
variable {p : Program} {l : Launch} {e : Env} {R : Room} {s : State} {m : MethodId} {args : Array Value} {below : List Frame} {meth : Method} {c : Code} {H : Heap} {locs : List Loc} {cells slots : Nat} {Q : State → Prop}
variable {cc : ByteArray} {pc : Nat} {ls : Array Slot} {rest : List Value}
theorem nv_imulc {x y : Nat} (hx : p.tables.exec = Jvm.exec) (hb : c.code = cc) (d : decode cc pc = .ok (.imul, 1)) (k : W p l e R s m args below meth c H locs cells slots Q (F0 m (pc + 1) ls (.int (nI (y * x)) :: rest))) : W p l e R s m args below meth c H locs cells slots Q (F0 m pc ls (.int (nI y) :: .int (nI x) :: rest)) := lv_imul hx hb d (by rw [pk_mul, Nat.mul_comm]; exact k)
end NV2
-- ===== for the walks of the sets =====
theorem upz {h : Nat → Nat} {i : Nat} (hin : ∀ s, s < i → h s = 0) : ∀ s, s < i + 1 → upN h i 0 s = 0 := by
  intro s hs
  by_cases e : s = i
  · subst e; exact upN_s _ _ _
  · rw [upN_n e]; exact hin s (by omega)
theorem hv_lt {qu h : Nat → Nat} {i : Nat} (hv : hvI qu i h) (hq : qu i < 4) (hi : i < 6) : h (qu i) ||| 1 <<< i < 128 := by
  have h1 := (hvI_s hv hq (qu i) hq).1
  rw [upN_s] at h1
  have h2 : 2 ^ (i + 1) ≤ 2 ^ 7 := Nat.pow_le_pow_right (n := 2) (by decide) (by omega)
  have h3 : (2 : Nat) ^ 7 = 128 := by decide
  omega
theorem ts_0 {q s : Nat → Nat} {n n0 n1 n2 : Nat} (h : sInv q s n 0 n0 n1 n2) : rcF n n0 n1 n2 = min (eds q s n 0) 3 := by
  rw [rcF_s h]
  show min (dC q s n 0) 3 = min (min 100 (dC q s n 0)) 3
  omega
theorem ts_s {q s : Nat → Nat} {n k x n0 n1 n2 : Nat} (hx : x = min (eds q s n k) 3) (h : sInv q s n (k + 1) n0 n1 n2) : min x (rcF n n0 n1 n2) = min (eds q s n (k + 1)) 3 := by
  rw [rcF_s h, hx]
  show _ = min (min (eds q s n k) (dC q s n (k + 1))) 3
  omega
theorem setOf_f {p : Nat → Bool} {n : Nat} (h : p n = false) : setOf p (n + 1) = setOf p n := by
  show (if p n then setOf p n ||| (1 <<< n) else setOf p n) = _
  rw [h]; rfl
theorem setOf_t {p : Nat → Bool} {n : Nat} (h : p n = true) : setOf p (n + 1) = setOf p n ||| 1 <<< n := by
  show (if p n then setOf p n ||| (1 <<< n) else setOf p n) = _
  rw [h]; rfl
theorem fdX_0 {P sz : Nat} {ln sy qu : Nat → Nat} {w : Nat} (h : P.testBit w = false) : fdX P sz ln sy qu w = false := by unfold fdX; rw [h]; rfl
theorem fdX_t {P sz : Nat} {ln sy qu : Nat → Nat} {w : Nat} (h : P.testBit w = true) (h2 : min (edt qu sy sz (ln w) w) 3 ≤ fg sz) : fdX P sz ln sy qu w = true := by
  have := fg_le sz
  unfold fdX; rw [h, decide_eq_true (by omega)]; rfl
theorem fdX_f {P sz : Nat} {ln sy qu : Nat → Nat} {w : Nat} (h2 : fg sz < min (edt qu sy sz (ln w) w) 3) : fdX P sz ln sy qu w = false := by
  unfold fdX; rw [decide_eq_false (by omega)]; simp
theorem tcOk_0 {P sz : Nat} {ln sy qu tc : Nat → Nat} {w : Nat} (h : tcOk P sz ln sy qu tc w) (hp : P.testBit w = false) : tcOk P sz ln sy qu tc (w + 1) := by
  intro v hv hb
  by_cases e : v = w
  · subst e; rw [hp] at hb; cases hb
  · exact h v (by omega) hb
theorem tcOk_s {P sz : Nat} {ln sy qu tc : Nat → Nat} {w : Nat} (h : tcOk P sz ln sy qu tc w) : tcOk P sz ln sy qu (upN tc w (min (edt qu sy sz (ln w) w) 3)) (w + 1) := by
  intro v hv hb
  by_cases e : v = w
  · subst e; exact upN_s _ _ _
  · rw [upN_n e]; exact h v (by omega) hb
theorem fo_tb {P sz fo : Nat} {ln sy qu tc : Nat → Nat} (h : cok P sz ln sy qu tc fo) {i : Nat} (hi : i < 10) : fo.testBit i = fdX P sz ln sy qu i := by
  rw [h.1, setOf_tb]; simp [hi]
theorem fo_lt {P sz fo : Nat} {ln sy qu tc : Nat → Nat} (h : cok P sz ln sy qu tc fo) : fo < 1024 := by
  rw [h.1]; exact setOf_lt _ 10
theorem fd_has {P sz : Nat} {ln sy qu : Nat → Nat} {w : Nat} (h : fdX P sz ln sy qu w = true) : P.testBit w = true ∧ edX sz ln sy qu w ≤ 2 := by
  unfold fdX at h
  rw [Bool.and_eq_true, decide_eq_true_eq] at h
  have := fg_le sz
  exact ⟨h.1, Nat.le_trans h.2 this⟩
theorem fd_tc {P sz fo : Nat} {ln sy qu tc : Nat → Nat} (h : cok P sz ln sy qu tc fo) {w : Nat} (hw : w < 10) (hf : fdX P sz ln sy qu w = true) : tc w = edX sz ln sy qu w := by
  obtain ⟨h1, h2⟩ := fd_has hf
  rw [h.2 w hw h1]
  show min (edX sz ln sy qu w) 3 = _
  omega
theorem nI_tn {j : Nat} (h : j < 10) : (nI j).toInt.toNat = j := by rw [nI_toInt (by omega)]; simp
theorem cnt_s {p : Nat → Bool} {i n : Nat} {b : Bool} (h : n = cntOf p i) (hb : p i = b) : n + b.toNat = cntOf p (i + 1) := by
  show _ = cntOf p i + (p i).toNat
  rw [h, hb]
def tyF (b : Bool) (v : Nat) : Int32 := if b = true then nI v else -1
theorem tyF_t {b : Bool} {v : Nat} (h : b = true) : nI v = tyF b v := by unfold tyF; rw [if_pos h]
theorem tyF_f {b : Bool} {v : Nat} (h : b = false) : -1 = tyF b v := by unfold tyF; rw [h]; rfl
/-- the first found word at place k -/
def atR (fd : Nat → Bool) (pl : Nat → Nat) (k r : Int32) : Prop := (∃ w, isFst (fun v => fd v && decide (nI (pl v) = k)) 10 w ∧ r = nI w) ∨ ((∀ v, v < 10 → (fd v && decide (nI (pl v) = k)) = false) ∧ r = -1)
def wgF (y : Int32) : Bool := inF 10 (fun _ => true) y
theorem wgF_n {j : Nat} (h : j < 10) : wgF (nI j) = true := inF_n h (by decide)
def tyR (cn : Nat → (Nat → Nat) → Nat) (sz : Nat) (qu : Nat → Nat) (x : Int32) (sz' : Nat) (qu' : Nat → Nat) (r : Int32) : Prop := (smF x = false ∧ r = -1 ∧ sz' = sz ∧ qu' = qu) ∨ (smF x = true ∧ 6 ≤ sz ∧ r = -2 ∧ sz' = sz ∧ qu' = qu) ∨ (∃ j, j < 4 ∧ x = nI j ∧ sz < 6 ∧ sz' = sz + 1 ∧ qu' = upN qu sz j ∧ r = nI (cn sz' qu'))
def rbR (sz : Nat) (qu : Nat → Nat) (sz' : Nat) (r : Int32) : Prop := (sz = 0 ∧ r = -1 ∧ sz' = 0) ∨ (0 < sz ∧ sz' = sz - 1 ∧ r = nI (qu (sz - 1)))
def hnF (ne : (Nat → Nat) → Bool) (qu : Nat → Nat) (sz : Nat) : Nat := if sz < 6 then setOf (fun s => ne (hq qu sz (s + 1))) 4 else 0
def hnQ (qu : Nat → Nat) (sz : Nat) : Nat → Nat := if sz < 6 then hq qu sz 4 else qu
def cnX (P : Nat) (ln sy : Nat → Nat) (sz : Nat) (qu : Nat → Nat) : Nat := cntOf (fdX P sz ln sy qu) 10
def cnM (ln sy : Nat → Nat) (sz : Nat) (qu : Nat → Nat) : Nat := cntOf (fdM sz ln sy qu) 10
theorem xS_kn {P sz : Nat} {ln sy qu tc : Nat → Nat} {fo : Nat} (htc : ∀ j, tc j ≤ 3) : xS P sz ln sy qu tc 0 fo := ⟨by decide, htc, fun h => absurd h (by decide)⟩
theorem nh_f {P sz : Nat} {ln sy qu : Nat → Nat} {w : Int32} (h : hsF P w = false) : inF 10 (fdX P sz ln sy qu) w = false := by
  cases hf : inF 10 (fdX P sz ln sy qu) w with
  | false => rfl
  | true =>
    obtain ⟨j, hj, rfl, h2⟩ := inF_ex hf
    rw [hsF_n hj, (fd_has h2).1] at h; cases h
-- ===== relations of the public methods =====
def bgR (fr : Nat → Bool) (x y r : Int32) (same : Prop) (u : Nat → Nat → Nat → Prop) : Prop := ((smF x && wgF y) = false ∧ r = -1 ∧ same) ∨ ((smF x && wgF y) = true ∧ (∀ v, v < 10 → fr v = false) ∧ r = -2 ∧ same) ∨ (∃ j k w, j < 4 ∧ k < 10 ∧ x = nI j ∧ y = nI k ∧ isFst fr 10 w ∧ r = nI w ∧ u j k w)
def exR (ok : Nat → Bool) (ln : Nat → Nat) (w x r : Int32) (same : Prop) (u : Nat → Nat → Prop) : Prop := (∃ j k, j < 10 ∧ k < 4 ∧ w = nI j ∧ x = nI k ∧ ok j = true ∧ ln j < 6 ∧ r = nI 1 ∧ u j k) ∨ ((∀ j k, j < 10 → k < 4 → w = nI j → x = nI k → ok j = true → 6 ≤ ln j) ∧ r = nI 0 ∧ same)
def rmR (ok : Nat → Bool) (w r : Int32) (same : Prop) (u : Nat → Prop) : Prop := (∃ j, j < 10 ∧ w = nI j ∧ ok j = true ∧ r = nI 1 ∧ u j) ∨ ((∀ j, j < 10 → w = nI j → ok j = false) ∧ r = nI 0 ∧ same)
def wgR (ok : Nat → Bool) (w y r : Int32) (same : Prop) (u : Nat → Nat → Prop) : Prop := (∃ j k, j < 10 ∧ k < 10 ∧ w = nI j ∧ y = nI k ∧ ok j = true ∧ r = nI 1 ∧ u j k) ∨ ((∀ j k, j < 10 → k < 10 → w = nI j → y = nI k → ok j = false) ∧ r = nI 0 ∧ same)
theorem nI_in10 {i j : Nat} (hi : i < 10) (hj : j < 10) (h : nI i = nI j) : i = j := (nI_eq (by omega) (by omega)).mp h
theorem ty_ok {cn : Nat → (Nat → Nat) → Nat} {sz : Nat} {qu : Nat → Nat} {i : Nat} {sz' : Nat} {qu' : Nat → Nat} {r : Int32} (hi : i < 4) (hs : sz < 6) (h : tyR cn sz qu (nI i) sz' qu' r) : sz' = sz + 1 ∧ qu' = upN qu sz i ∧ r = nI (cn sz' qu') := by
  rcases h with ⟨h, -⟩ | ⟨-, h, -⟩ | ⟨j, hj, he, -, h1, h2, h3⟩
  · rw [smF_n hi] at h; cases h
  · omega
  · have : i = j := nI_in10 (by omega) (by omega) he
    subst this
    exact ⟨h1, h2, h3⟩
theorem rb_ok {sz : Nat} {qu : Nat → Nat} {sz' : Nat} {r : Int32} (hs : 0 < sz) (h : rbR sz qu sz' r) : sz' = sz - 1 := by
  rcases h with ⟨h, -⟩ | ⟨-, h, -⟩
  · omega
  · exact h
-- ===== what the found words have in common, word by word =====
def cmI (i : Nat) (fd : Nat → Bool) (ln sy : Nat → Nat) (fi : Int32) (n : Nat) : Prop := (fi = -1 ∧ (∀ v, v < i → fd v = false) ∧ n = 0) ∨ (∃ f, f < i ∧ fi = nI f ∧ fd f = true ∧ cmn i fd ln sy n ∧ ¬ cmn i fd ln sy (n + 1))
theorem cmI_0 (fd : Nat → Bool) (ln sy : Nat → Nat) : cmI 0 fd ln sy (-1) 0 := Or.inl ⟨rfl, fun v hv => absurd hv (Nat.not_lt_zero v), rfl⟩
theorem cmn_le {i : Nat} {fd : Nat → Bool} {ln sy : Nat → Nat} {n : Nat} (h : cmn (i + 1) fd ln sy n) : cmn i fd ln sy n := ⟨fun v hv => h.1 v (by omega), fun v w hv hw => h.2 v w (by omega) (by omega)⟩
theorem cmn_up {i : Nat} {fd : Nat → Bool} {ln sy : Nat → Nat} {n : Nat} (hf : fd i = false) (h : cmn i fd ln sy n) : cmn (i + 1) fd ln sy n := by
  have ne : ∀ v, v < i + 1 → fd v = true → v < i := by
    intro v hv h1
    by_cases e : v = i
    · subst e; rw [hf] at h1; cases h1
    · omega
  exact ⟨fun v hv h1 => h.1 v (ne v hv h1) h1, fun v w hv hw h1 h2 => h.2 v w (ne v hv h1) (ne w hw h2) h1 h2⟩
theorem cmI_skip {i : Nat} {fd : Nat → Bool} {ln sy : Nat → Nat} {fi : Int32} {n : Nat} (hf : fd i = false) (h : cmI i fd ln sy fi n) : cmI (i + 1) fd ln sy fi n := by
  rcases h with ⟨h1, h2, h3⟩ | ⟨f, h1, h2, h3, h4, h5⟩
  · exact Or.inl ⟨h1, lt_s h2 hf, h3⟩
  · exact Or.inr ⟨f, by omega, h2, h3, cmn_up hf h4, fun z => h5 (cmn_le z)⟩
theorem cmI_first {i : Nat} {fd : Nat → Bool} {ln sy : Nat → Nat} (h : ∀ v, v < i → fd v = false) (hf : fd i = true) : cmI (i + 1) fd ln sy (nI i) (ln i) := by
  have ne : ∀ v, v < i + 1 → fd v = true → v = i := by
    intro v hv h1
    by_cases e : v = i
    · exact e
    · rw [h v (by omega)] at h1; cases h1
  refine Or.inr ⟨i, by omega, rfl, hf, ⟨fun v hv h1 => ?_, fun v w hv hw h1 h2 k hk => ?_⟩, fun z => ?_⟩
  · rw [ne v hv h1]; exact Nat.le_refl _
  · rw [ne v hv h1, ne w hw h2]
  · have := z.1 i (by omega) hf; omega
theorem cmI_next {i f n q : Nat} {fd : Nat → Bool} {ln sy : Nat → Nat} (hfi : f < i) (hff : fd f = true) (h4 : cmn i fd ln sy n) (h5 : ¬ cmn i fd ln sy (n + 1)) (hf : fd i = true) (hs : shR ln sy f i n q) : cmI (i + 1) fd ln sy (nI f) q := by
  obtain ⟨s1, s2, s3, s4⟩ := hs
  have agree : ∀ v, v < i + 1 → fd v = true → ∀ k, k < q → sy (6 * v + k) = sy (6 * f + k) := by
    intro v hv h1 k hk
    by_cases e : v = i
    · subst e; exact (s3 k hk).symm
    · exact h4.2 v f (by omega) hfi h1 hff k (by omega)
  refine Or.inr ⟨f, by omega, rfl, hff, ⟨fun v hv h1 => ?_, fun v w hv hw h1 h2 k hk => ?_⟩, fun z => ?_⟩
  · by_cases e : v = i
    · subst e; exact s2
    · exact Nat.le_trans s1 (h4.1 v (by omega) h1)
  · rw [agree v hv h1 k hk, agree w hw h2 k hk]
  · rcases s4 with e | e | e
    · rw [e] at z; exact h5 (cmn_le z)
    · have := z.1 i (by omega) hf; omega
    · exact e (z.2 f i (by omega) (by omega) hff hf q (Nat.lt_succ_self q))
theorem cmI_end {b : Nat} {fd : Nat → Bool} {ln sy : Nat → Nat} {fi : Int32} {n : Nat} (h : cmI b fd ln sy fi n) : cmR b fd ln sy n := by
  rcases h with ⟨h1, h2, h3⟩ | ⟨f, h1, h2, h3, h4, h5⟩
  · exact Or.inl ⟨h2, h3⟩
  · exact Or.inr ⟨⟨f, h1, h3⟩, h4, h5⟩
theorem cmI_neg {i : Nat} {fd : Nat → Bool} {ln sy : Nat → Nat} {fi : Int32} {n : Nat} (h : cmI i fd ln sy fi n) (hi : i ≤ 10) (hn : ¬ 0 ≤ fi) : ∀ v, v < i → fd v = false := by
  rcases h with ⟨h1, h2, h3⟩ | ⟨f, h1, h2, h3, h4, h5⟩
  · exact h2
  · rw [h2] at hn; exact absurd (nI_pos' (by omega)) hn
theorem cmI_pos {i : Nat} {fd : Nat → Bool} {ln sy : Nat → Nat} {fi : Int32} {n : Nat} (h : cmI i fd ln sy fi n) (hn : 0 ≤ fi) : ∃ f, f < i ∧ fi = nI f ∧ fd f = true ∧ cmn i fd ln sy n ∧ ¬ cmn i fd ln sy (n + 1) := by
  rcases h with ⟨h1, h2, h3⟩ | h
  · rw [h1] at hn; exact absurd hn (by decide)
  · exact h
theorem hn_t {ne : (Nat → Nat) → Bool} {qu : Nat → Nat} {sz g i : Nat} (h6 : 6 ≤ sz → i = 0) (hi : i = 4) (hg : g = setOf (fun s => ne (hq qu sz (s + 1))) i) : g = hnF ne qu sz := by
  unfold hnF; rw [if_pos (by omega), hg, hi]
theorem hn_tq {qu q : Nat → Nat} {sz i : Nat} (h6 : 6 ≤ sz → i = 0) (hi : i = 4) (hg : q = hq qu sz i) : q = hnQ qu sz := by
  unfold hnQ; rw [if_pos (by omega), hg, hi]
theorem hn_f {ne : (Nat → Nat) → Bool} {qu : Nat → Nat} {sz g i : Nat} (h6 : 6 ≤ sz → i = 0) (hs : 6 ≤ sz) (hg : g = setOf (fun s => ne (hq qu sz (s + 1))) i) : g = hnF ne qu sz := by
  unfold hnF; rw [if_neg (by omega), hg, h6 hs]; rfl
theorem hn_fq {qu q : Nat → Nat} {sz i : Nat} (h6 : 6 ≤ sz → i = 0) (hs : 6 ≤ sz) (hg : q = hq qu sz i) : q = hnQ qu sz := by
  unfold hnQ; rw [if_neg (by omega), hg, h6 hs]; rfl
-- ===== the reference =====
theorem isB_0 {ln : Nat → Nat} {w : Nat} (h : ln w = 0) : isB ln w = false := decide_eq_false (by omega)
theorem isB_1 {ln : Nat → Nat} {w : Nat} (h : 0 < ln w) : isB ln w = true := decide_eq_true h
theorem rg_ng {w : Int32} {n : Nat} (hn : n < 2 ^ 30) (h1 : ¬ w < 0) (h2 : ¬ nI n < w) : ∃ j, j ≤ n ∧ w = nI j := rg_le hn h1 (Int32.not_lt.mp h2)
theorem fdM_0 {sz : Nat} {ln sy qu : Nat → Nat} {w : Nat} (h : isB ln w = false) : fdM sz ln sy qu w = false := by
  unfold fdM; rw [show decide (0 < ln w) = false from h]; rfl
theorem fdM_t {sz g : Nat} {ln sy qu : Nat → Nat} {w : Nat} (hg : g = fg sz) (h : isB ln w = true) (h2 : edX sz ln sy qu w ≤ g) : fdM sz ln sy qu w = true := by
  unfold fdM; rw [show decide (0 < ln w) = true from h, ← hg, decide_eq_true (show edt qu sy sz (ln w) w ≤ g from h2)]; rfl
theorem fdM_f {sz g : Nat} {ln sy qu : Nat → Nat} {w : Nat} (hg : g = fg sz) (h2 : g < edX sz ln sy qu w) : fdM sz ln sy qu w = false := by
  unfold fdM; rw [← hg, decide_eq_false (show ¬ edt qu sy sz (ln w) w ≤ g from Nat.not_le.mpr h2)]; simp
theorem ni_f {sz : Nat} {ln sy qu : Nat → Nat} {w : Int32} (h : isF ln w = false) : inF 10 (fdM sz ln sy qu) w = false := by
  cases hf : inF 10 (fdM sz ln sy qu) w with
  | false => rfl
  | true =>
    obtain ⟨j, hj, rfl, h2⟩ := inF_ex hf
    rw [isF_n hj] at h
    rw [fdM_0 h] at h2; cases h2
def tbI (q s : Nat → Nat) (L i j : Nat) (c : Nat → Nat) : Prop := ∀ a b, (a < i ∧ b ≤ L ∨ a = i ∧ b < j) → c (7 * a + b) = dC q s a b
theorem tb_put {q s : Nat → Nat} {L i j v : Nat} {c : Nat → Nat} (h : tbI q s L i j c) (hj : j ≤ L) (hL : L ≤ 6) (hv : v = dC q s i j) : tbI q s L i (j + 1) (upN c (7 * i + j) v) := by
  intro a b hab
  by_cases e : 7 * a + b = 7 * i + j
  · have h1 : a = i := by omega
    have h2 : b = j := by omega
    subst h1 h2
    rw [upN_s]; exact hv
  · rw [upN_n e]; exact h a b (by omega)
theorem tb_row {q s : Nat → Nat} {L i j : Nat} {c : Nat → Nat} (h : tbI q s L i j c) (hj : L < j) : tbI q s L (i + 1) 0 c := by
  intro a b hab
  exact h a b (by omega)
theorem tb_st {qu sy : Nat → Nat} {w L i j : Nat} {c : Nat → Nat} (h : tbI qu (fun k => sy (6 * w + k)) L i j c) (hij : ¬ (i = 0 ∧ j = 0)) (hj : j ≤ L) : stF c qu sy w i j = dC qu (fun k => sy (6 * w + k)) i j :=
  stF_dC hij (fun z => h (i - 1) j (by omega)) (fun z => h i (j - 1) (by omega)) (fun z z2 => h (i - 1) (j - 1) (by omega))
def edl (q s : Nat → Nat) (n : Nat) : Nat → Nat
  | 0 => 100
  | k + 1 => min (edl q s n k) (dC q s n k)
theorem edl_eds (q s : Nat → Nat) (n k : Nat) : edl q s n (k + 1) = eds q s n k := by
  induction k with
  | zero => rfl
  | succ k ih =>
    show min (edl q s n (k + 1)) (dC q s n (k + 1)) = min (eds q s n k) (dC q s n (k + 1))
    rw [ih]
theorem edl_le (q s : Nat → Nat) (n k : Nat) : edl q s n k ≤ 100 := by
  cases k with
  | zero => exact Nat.le_refl _
  | succ k => rw [edl_eds]; exact eds_le q s n k
theorem edX_le (sz : Nat) (ln sy qu : Nat → Nat) (w : Nat) : edX sz ln sy qu w ≤ 100 := eds_le _ _ _ _
theorem set_lt31 (p : Nat → Bool) : setOf p 10 < 2 ^ 31 := Nat.lt_trans (setOf_lt p 10) (by decide)
theorem and1_lt (x : Nat) : x &&& 1 < 2 ^ 31 := Nat.lt_of_le_of_lt Nat.and_le_right (by decide)
theorem tb_one {p : Nat → Bool} {i : Nat} (hi : i < 10) : (setOf p 10 >>> i &&& 1 = 1) ↔ p i = true := by
  rw [nv_tb1, setOf_tb]
  cases p i <;> simp [hi]
theorem cnt_q {p : Nat → Bool} {i n : Nat} (hi : i < 10) (h : n = cntOf p i) : n + ((setOf p 10).testBit i).toNat = cntOf p (i + 1) := by
  refine cnt_s h ?_
  rw [setOf_tb]; simp [hi]
def mmI (fd : Nat → Bool) (ln sy : Nat → Nat) (v w n : Nat) : Prop := n ≤ 6 ∧ (∀ a b, a < 10 → b < 10 → (a < v ∨ (a = v ∧ b < w)) → fd a = true → fd b = true → n ≤ ln a ∧ ∀ k, k < n → sy (6 * a + k) = sy (6 * b + k)) ∧ (n = 6 ∨ ∃ a b, a < 10 ∧ b < 10 ∧ fd a = true ∧ fd b = true ∧ lcR ln sy a b n)
theorem mm_0 (fd : Nat → Bool) (ln sy : Nat → Nat) : mmI fd ln sy 0 0 6 := ⟨Nat.le_refl _, fun a b _ _ h => by omega, Or.inl rfl⟩
theorem mm_skip {fd : Nat → Bool} {ln sy : Nat → Nat} {v w n : Nat} (hf : ¬ (fd v = true ∧ fd w = true)) (h : mmI fd ln sy v w n) : mmI fd ln sy v (w + 1) n := by
  refine ⟨h.1, fun a b ha hb hab fa fb => ?_, h.2.2⟩
  by_cases e : a = v ∧ b = w
  · rw [e.1] at fa; rw [e.2] at fb; exact absurd ⟨fa, fb⟩ hf
  · exact h.2.1 a b ha hb (by omega) fa fb
theorem mm_put {fd : Nat → Bool} {ln sy : Nat → Nat} {v w n q : Nat} (hv : v < 10) (hw : w < 10) (fv : fd v = true) (fw : fd w = true) (hq : lcR ln sy v w q) (h : mmI fd ln sy v w n) : mmI fd ln sy v (w + 1) (min n q) := by
  refine ⟨by have := h.1; omega, fun a b ha hb hab fa fb => ?_, ?_⟩
  · by_cases e : a = v ∧ b = w
    · obtain ⟨e1, e2⟩ := e
      subst e1 e2
      exact ⟨Nat.le_trans (Nat.min_le_right _ _) hq.1, fun k hk => hq.2.2.1 k (by omega)⟩
    · obtain ⟨g1, g2⟩ := h.2.1 a b ha hb (by omega) fa fb
      exact ⟨Nat.le_trans (Nat.min_le_left _ _) g1, fun k hk => g2 k (by omega)⟩
  · rcases Nat.le_total n q with z | z
    · rw [Nat.min_eq_left z]; exact h.2.2
    · rw [Nat.min_eq_right z]; exact Or.inr ⟨v, w, hv, hw, fv, fw, hq⟩
theorem mm_row {fd : Nat → Bool} {ln sy : Nat → Nat} {v w n : Nat} (hw : 10 ≤ w) (h : mmI fd ln sy v w n) : mmI fd ln sy (v + 1) 0 n := ⟨h.1, fun a b ha hb hab fa fb => h.2.1 a b ha hb (by omega) fa fb, h.2.2⟩
theorem mm_end {fd : Nat → Bool} {ln sy : Nat → Nat} {v n : Nat} (hv : 10 ≤ v) (h : mmI fd ln sy v 0 n) (hl : ∀ j, ln j ≤ 6) (hs : setOf fd 10 ≠ 0) : cmR 10 fd ln sy n := by
  obtain ⟨i, hi, hf⟩ := setOf_ne.mp hs
  refine Or.inr ⟨⟨i, hi, hf⟩, ⟨fun a ha fa => (h.2.1 a a ha ha (by omega) fa fa).1, fun a b ha hb fa fb => (h.2.1 a b ha hb (by omega) fa fb).2⟩, fun z => ?_⟩
  rcases h.2.2 with e | ⟨a, b, ha, hb, fa, fb, -, -, -, q4⟩
  · have := z.1 i hi hf; have := hl i; omega
  · rcases q4 with e | e | e
    · have := z.1 a ha fa; omega
    · have := z.1 b hb fb; omega
    · exact e (z.2 a b ha hb fa fb n (Nat.lt_succ_self n))
theorem cm_0 {fd : Nat → Bool} {ln sy : Nat → Nat} (hs : setOf fd 10 = 0) : cmR 10 fd ln sy 0 := by
  refine Or.inl ⟨fun v hv => ?_, rfl⟩
  cases h : fd v with
  | false => rfl
  | true => exact absurd hs (setOf_ne.mpr ⟨v, hv, h⟩)
theorem set0_no {fd : Nat → Bool} {i : Nat} (hs : setOf fd 10 = 0) (hi : i < 10) (h : fd i = true) : False := setOf_ne.mpr ⟨i, hi, h⟩ hs
theorem cn_ne {p : Nat → Bool} : decide (setOf p 10 ≠ 0) = decide (0 < cntOf p 10) := by
  have : (setOf p 10 ≠ 0) ↔ (0 < cntOf p 10) := setOf_ne.trans cntOf_pos.symm
  simp only [this]
theorem ex_end {sz : Nat} {ln sy qu : Nat → Nat} {w k : Nat} {b : Bool} (hin : b = true → ∀ q, q < k → sy (6 * w + q) = qu q) (hout : b = false → exB sz ln sy qu w = false) (hl : ln w = sz) (hk : sz ≤ k) : nI b.toNat = nI (exB sz ln sy qu w).toNat := by
  cases b with
  | false => rw [hout rfl]
  | true => rw [exB_t hl (fun q hq => hin rfl q (by omega))]
end
section
set_option maxRecDepth 100000
set_option maxHeartbeats 4000000 in
/-- isSymbol(x) -/
theorem metX0_isSymbol (l : Launch) (x : Int32)  : Met l yX0_isSymbol (ws_ yX0_isSymbol cX0_isSymbol 1 (some .boolean)) (rmN 0 0) (va_Pc [.int x] (fun _ => True)) (vp_Si (fun r => r = (nI (Bool.toNat (smF x))))) 0 0 (fun _ => False) := by
  refine en_st (by decide) (Nat.le_of_ble_eq_true rfl) ?_
  intro p e s m below meth c F hr hlk ls hl
  have hx := F.1
  have hb := F.2.1
  have F : CallFix p m c cX0_isSymbol 1 s [.int x].toArray lw_all RX0 := F
  have hl : lv_has ls 1 [(0, .int x)] := hl
  refine lv_iload_n hx hb dX0_isSymbol_0 rfl (lv_at hl 0 rfl) ?_
  refine lv_if_lt (tgt := 13) hx hb dX0_isSymbol_1 (by decide) (fun c1 => ?_) (fun c1 => ?_)
  · refine lv_iconst (v := (nI 0)) hx hb dX0_isSymbol_13 (by decide) ?_
    exact rt_rz hx hb hr hlk dX0_isSymbol_14 rfl (by rw [show smF x = false from inF_lo (rg_neg c1)]; rfl)
  · refine lv_iload_n hx hb dX0_isSymbol_4 rfl (lv_at hl 0 rfl) ?_
    refine lv_iconst (v := (nI 4)) hx hb dX0_isSymbol_5 (by decide) ?_
    refine lv_icmp_ge (tgt := 13) hx hb dX0_isSymbol_6 (by decide) (fun c6 => ?_) (fun c6 => ?_)
    · refine lv_iconst (v := (nI 0)) hx hb dX0_isSymbol_13 (by decide) ?_
      exact rt_rz hx hb hr hlk dX0_isSymbol_14 rfl (by rw [show smF x = false from inF_hi (rg_big (by decide) c6)]; rfl)
    · obtain ⟨j, hj, rfl⟩ := rg_ex (by decide) c1 c6
      refine lv_iconst (v := (nI 1)) hx hb dX0_isSymbol_9 (by decide) ?_
      refine lv_goto (tgt := 14) hx hb dX0_isSymbol_10 (by decide) ?_
      exact rt_rz hx hb hr hlk dX0_isSymbol_14 rfl (by rw [smF_n hj]; rfl)
set_option maxHeartbeats 4000000 in
/-- has(w) -/
theorem metX0_has (l : Launch) (D : va_G) (dB : ClassId) (ad : Nat → Nat) (P sz n0 n1 n2 kn fo : Nat) (ln wt sy qu ha tc : Nat → Nat) (w : Int32) (hp : P < 1024) : Met l yX0_has (ws_ yX0_has cX0_has 2 (some .boolean)) (rmN 0 0) (PR D [(dB, .byte)] (xw dB ad P sz n0 n1 n2 kn fo ln wt sy qu ha tc) [.ref (ad 0), .int w]) (vp_Si (fun r => r = (nI (Bool.toNat (hsF P w))))) 0 0 (fun _ => False) := by
  refine en_ro (by decide) (Nat.le_of_ble_eq_true rfl) ?_
  intro p e s m below meth c F hr hlk hK hP ls hl
  have hx := F.1
  have hb := F.2.1
  have F : CallFix p m c cX0_has 2 s [.ref (ad 0), .int w].toArray lw_all RX0 := F
  have hl : lv_has ls 2 [(0, .ref (ad 0)), (1, .int w)] := hl
  refine lv_iload_n hx hb dX0_has_0 rfl (lv_at hl 1 rfl) ?_
  refine lv_if_lt (tgt := 25) hx hb dX0_has_1 (by decide) (fun c1 => ?_) (fun c1 => ?_)
  · refine lv_iconst (v := (nI 0)) hx hb dX0_has_25 (by decide) ?_
    exact rt_rz hx hb hr hlk dX0_has_26 rfl (by rw [show hsF P w = false from inF_lo (rg_neg c1)]; rfl)
  · refine lv_iload_n hx hb dX0_has_4 rfl (lv_at hl 1 rfl) ?_
    refine lv_bipush (v := (nI 10)) hx hb dX0_has_5 (by decide) ?_
    refine lv_icmp_ge (tgt := 25) hx hb dX0_has_7 (by decide) (fun c7 => ?_) (fun c7 => ?_)
    · refine lv_iconst (v := (nI 0)) hx hb dX0_has_25 (by decide) ?_
      exact rt_rz hx hb hr hlk dX0_has_26 rfl (by rw [show hsF P w = false from inF_hi (rg_big (by decide) c7)]; rfl)
    · obtain ⟨j, hj, rfl⟩ := rg_ex (by decide) c1 c7
      refine lv_aload_n hx hb dX0_has_10 rfl (lv_at hl 0 rfl) ?_
      refine gx F hK hP rfl 0 (by decide) q34 rfl dX0_has_11 ?_
      refine lv_iload_n hx hb dX0_has_14 rfl (lv_at hl 1 rfl) ?_
      refine nv_ishr hx hb (by omega) (by omega) dX0_has_15 ?_
      refine lv_iconst (v := (nI 1)) hx hb dX0_has_16 (by decide) ?_
      refine nv_iand hx hb dX0_has_17 ?_
      rw [show (P >>> j) &&& 1 = Bool.toNat (P.testBit j) from nv_tb1 P j]
      refine nv_beq (tgt := 25) hx hb dX0_has_18 (by decide) (fun c18 => ?_) (fun c18 => ?_)
      · refine lv_iconst (v := (nI 0)) hx hb dX0_has_25 (by decide) ?_
        exact rt_rz hx hb hr hlk dX0_has_26 rfl (by rw [hsF_n hj, c18]; rfl)
      · refine lv_iconst (v := (nI 1)) hx hb dX0_has_21 (by decide) ?_
        refine lv_goto (tgt := 26) hx hb dX0_has_22 (by decide) ?_
        exact rt_rz hx hb hr hlk dX0_has_26 rfl (by rw [hsF_n hj, c18]; rfl)
set_option maxHeartbeats 4000000 in
/-- words() -/
theorem metX0_words (l : Launch) (D : va_G) (dB : ClassId) (ad : Nat → Nat) (P sz n0 n1 n2 kn fo : Nat) (ln wt sy qu ha tc : Nat → Nat)   : Met l yX0_words (ws_ yX0_words cX0_words 1 (some .int)) (rmN 0 0) (PR D [(dB, .byte)] (xw dB ad P sz n0 n1 n2 kn fo ln wt sy qu ha tc) [.ref (ad 0)]) (vp_Si (fun r => r = (nI P))) 0 0 (fun _ => False) := by
  refine en_ro (by decide) (Nat.le_of_ble_eq_true rfl) ?_
  intro p e s m below meth c F hr hlk hK hP ls hl
  have hx := F.1
  have hb := F.2.1
  have F : CallFix p m c cX0_words 1 s [.ref (ad 0)].toArray lw_all RX0 := F
  have hl : lv_has ls 1 [(0, .ref (ad 0))] := hl
  refine lv_aload_n hx hb dX0_words_0 rfl (lv_at hl 0 rfl) ?_
  refine gx F hK hP rfl 0 (by decide) q34 rfl dX0_words_1 ?_
  exact rt_ri hx hb hr hlk dX0_words_4 rfl
set_option maxHeartbeats 4000000 in
/-- typed() -/
theorem metX0_typed (l : Launch) (D : va_G) (dB : ClassId) (ad : Nat → Nat) (P sz n0 n1 n2 kn fo : Nat) (ln wt sy qu ha tc : Nat → Nat)   : Met l yX0_typed (ws_ yX0_typed cX0_typed 1 (some .int)) (rmN 0 0) (PR D [(dB, .byte)] (xw dB ad P sz n0 n1 n2 kn fo ln wt sy qu ha tc) [.ref (ad 0)]) (vp_Si (fun r => r = (nI sz))) 0 0 (fun _ => False) := by
  refine en_ro (by decide) (Nat.le_of_ble_eq_true rfl) ?_
  intro p e s m below meth c F hr hlk hK hP ls hl
  have hx := F.1
  have hb := F.2.1
  have F : CallFix p m c cX0_typed 1 s [.ref (ad 0)].toArray lw_all RX0 := F
  have hl : lv_has ls 1 [(0, .ref (ad 0))] := hl
  refine lv_aload_n hx hb dX0_typed_0 rfl (lv_at hl 0 rfl) ?_
  refine gx F hK hP rfl 5 (by decide) q39 rfl dX0_typed_1 ?_
  exact rt_ri hx hb hr hlk dX0_typed_4 rfl
set_option maxHeartbeats 4000000 in
/-- forgiven() -/
theorem metX0_forgiven (l : Launch) (D : va_G) (dB : ClassId) (ad : Nat → Nat) (P sz n0 n1 n2 kn fo : Nat) (ln wt sy qu ha tc : Nat → Nat)  (hs6 : sz ≤ 6) : Met l yX0_forgiven (ws_ yX0_forgiven cX0_forgiven 1 (some .int)) (rmN 0 0) (PR D [(dB, .byte)] (xw dB ad P sz n0 n1 n2 kn fo ln wt sy qu ha tc) [.ref (ad 0)]) (vp_Si (fun r => r = (nI (fg sz)))) 0 0 (fun _ => False) := by
  refine en_ro (by decide) (Nat.le_of_ble_eq_true rfl) ?_
  intro p e s m below meth c F hr hlk hK hP ls hl
  have hx := F.1
  have hb := F.2.1
  have F : CallFix p m c cX0_forgiven 1 s [.ref (ad 0)].toArray lw_all RX0 := F
  have hl : lv_has ls 1 [(0, .ref (ad 0))] := hl
  refine lv_aload_n hx hb dX0_forgiven_0 rfl (lv_at hl 0 rfl) ?_
  refine gx F hK hP rfl 5 (by decide) q39 rfl dX0_forgiven_1 ?_
  refine lv_iconst (v := (nI 3)) hx hb dX0_forgiven_4 (by decide) ?_
  refine nv_cge (tgt := 10) hx hb dX0_forgiven_5 (by decide) (by omega) (by omega) (fun c5 => ?_) (fun c5 => ?_)
  · refine lv_aload_n hx hb dX0_forgiven_10 rfl (lv_at hl 0 rfl) ?_
    refine gx F hK hP rfl 5 (by decide) q39 rfl dX0_forgiven_11 ?_
    refine lv_iconst (v := (nI 5)) hx hb dX0_forgiven_14 (by decide) ?_
    refine nv_cge (tgt := 22) hx hb dX0_forgiven_15 (by decide) (by omega) (by omega) (fun c15 => ?_) (fun c15 => ?_)
    · refine lv_iconst (v := (nI 2)) hx hb dX0_forgiven_22 (by decide) ?_
      exact rt_ri hx hb hr hlk dX0_forgiven_23 (congrArg nI (by unfold fg; rw [if_neg (by omega), if_neg (by omega)]))
    · refine lv_iconst (v := (nI 1)) hx hb dX0_forgiven_18 (by decide) ?_
      refine lv_goto (tgt := 23) hx hb dX0_forgiven_19 (by decide) ?_
      exact rt_ri hx hb hr hlk dX0_forgiven_23 (congrArg nI (by unfold fg; rw [if_neg (by omega), if_pos (by omega)]))
  · refine lv_iconst (v := (nI 0)) hx hb dX0_forgiven_8 (by decide) ?_
    exact rt_ri hx hb hr hlk dX0_forgiven_9 (congrArg nI (by unfold fg; rw [if_pos (by omega)]))
set_option maxHeartbeats 4000000 in
/-- movable(st, fi) -/
theorem metX0_movable (l : Launch) (D : va_G) (dB : ClassId) (ad : Nat → Nat) (P sz n0 n1 n2 kn fo : Nat) (ln wt sy qu ha tc : Nat → Nat) (st : Nat) (fi : Bool) (hs6 : sz ≤ 6) : Met l yX0_movable (ws_ yX0_movable cX0_movable 4 (some .int)) (rmN 0 0) (PR D [(dB, .byte)] (xw dB ad P sz n0 n1 n2 kn fo ln wt sy qu ha tc) [.ref (ad 0), .int (nI st), .int (nI (Bool.toNat fi))]) (vp_Si (fun r => r = (nI (mvB sz st fi)))) 0 0 (fun _ => False) := by
  refine en_ro (by decide) (Nat.le_of_ble_eq_true rfl) ?_
  intro p e s m below meth c F hr hlk hK hP ls hl
  have hx := F.1
  have hb := F.2.1
  have F : CallFix p m c cX0_movable 4 s [.ref (ad 0), .int (nI st), .int (nI (Bool.toNat fi))].toArray lw_all RX0 := F
  have hl : lv_has ls 4 [(0, .ref (ad 0)), (1, .int (nI st)), (2, .int (nI (Bool.toNat fi)))] := hl
  refine lv_iload_n hx hb dX0_movable_0 rfl (lv_at hl 1 rfl) ?_
  refine lv_iconst (v := (nI 1)) hx hb dX0_movable_1 (by decide) ?_
  refine lv_aload_n hx hb dX0_movable_2 rfl (lv_at hl 0 rfl) ?_
  refine gx F hK hP rfl 5 (by decide) q39 rfl dX0_movable_3 ?_
  refine nv_ishl hx hb (by omega) dX0_movable_6 ?_
  refine lv_iconst (v := (nI 1)) hx hb dX0_movable_7 (by decide) ?_
  refine nv_isub hx hb (one_sh_pos _) dX0_movable_8 ?_
  refine nv_iand hx hb dX0_movable_9 ?_
  refine lv_istore_n (lv' := [(3, .int (nI (st &&& ((1 <<< sz) - 1)))), (0, .ref (ad 0)), (1, .int (nI st)), (2, .int (nI (Bool.toNat fi)))]) hx hb dX0_movable_10 rfl hl (by decide) rfl (fun ls hl => ?_)
  refine lv_iload_n hx hb dX0_movable_11 rfl (lv_at hl 3 rfl) ?_
  refine nv_beq (tgt := 21) hx hb dX0_movable_12 (by decide) (fun c12 => ?_) (fun c12 => ?_)
  · refine lv_iload_n hx hb dX0_movable_21 rfl (lv_at hl 0 rfl) ?_
    refine lv_bipush (v := (nI 4294967294)) hx hb dX0_movable_22 (by decide) ?_
    refine nv_iand hx hb dX0_movable_24 ?_
    exact rt_ri hx hb hr hlk dX0_movable_25 (by subst c12; rfl)
  · refine lv_iload_n hx hb dX0_movable_15 rfl (lv_at hl 0 rfl) ?_
    refine lv_iconst (v := (nI 1)) hx hb dX0_movable_16 (by decide) ?_
    refine nv_iand hx hb dX0_movable_17 ?_
    refine lv_goto (tgt := 25) hx hb dX0_movable_18 (by decide) ?_
    exact rt_ri hx hb hr hlk dX0_movable_25 (by subst c12; rfl)
set_option maxHeartbeats 4000000 in
/-- reached() -/
theorem metX0_reached (l : Launch) (D : va_G) (dB : ClassId) (ad : Nat → Nat) (P sz n0 n1 n2 kn fo : Nat) (ln wt sy qu ha tc : Nat → Nat)  (hs6 : sz ≤ 6) : Met l yX0_reached (ws_ yX0_reached cX0_reached 2 (some .int)) (rmN 0 0) (PR D [(dB, .byte)] (xw dB ad P sz n0 n1 n2 kn fo ln wt sy qu ha tc) [.ref (ad 0)]) (vp_Si (fun r => r = (nI (rcF sz n0 n1 n2)))) 0 0 (fun _ => False) := by
  refine en_ro (by decide) (Nat.le_of_ble_eq_true rfl) ?_
  intro p e s m below meth c F hr hlk hK hP ls hl
  have hx := F.1
  have hb := F.2.1
  have F : CallFix p m c cX0_reached 2 s [.ref (ad 0)].toArray lw_all RX0 := F
  have hl : lv_has ls 2 [(0, .ref (ad 0))] := hl
  refine lv_iconst (v := (nI 1)) hx hb dX0_reached_0 (by decide) ?_
  refine lv_aload_n hx hb dX0_reached_1 rfl (lv_at hl 0 rfl) ?_
  refine gx F hK hP rfl 5 (by decide) q39 rfl dX0_reached_2 ?_
  refine nv_ishl hx hb (by omega) dX0_reached_5 ?_
  refine lv_istore_n (lv' := [(1, .int (nI (1 <<< sz))), (0, .ref (ad 0))]) hx hb dX0_reached_6 rfl hl (by decide) rfl (fun ls hl => ?_)
  refine lv_aload_n hx hb dX0_reached_7 rfl (lv_at hl 1 rfl) ?_
  refine gx F hK hP rfl 7 (by decide) q41 rfl dX0_reached_8 ?_
  refine lv_iload_n hx hb dX0_reached_11 rfl (lv_at hl 0 rfl) ?_
  refine nv_iand hx hb dX0_reached_12 ?_
  refine nv_zeq (tgt := 18) hx hb dX0_reached_13 (by decide) (ab_lt hs6) (fun c13 => ?_) (fun c13 => ?_)
  · refine lv_aload_n hx hb dX0_reached_18 rfl (lv_at hl 1 rfl) ?_
    refine gx F hK hP rfl 8 (by decide) q42 rfl dX0_reached_19 ?_
    refine lv_iload_n hx hb dX0_reached_22 rfl (lv_at hl 0 rfl) ?_
    refine nv_iand hx hb dX0_reached_23 ?_
    refine nv_zeq (tgt := 29) hx hb dX0_reached_24 (by decide) (ab_lt hs6) (fun c24 => ?_) (fun c24 => ?_)
    · refine lv_aload_n hx hb dX0_reached_29 rfl (lv_at hl 1 rfl) ?_
      refine gx F hK hP rfl 9 (by decide) q43 rfl dX0_reached_30 ?_
      refine lv_iload_n hx hb dX0_reached_33 rfl (lv_at hl 0 rfl) ?_
      refine nv_iand hx hb dX0_reached_34 ?_
      refine nv_zeq (tgt := 42) hx hb dX0_reached_35 (by decide) (ab_lt hs6) (fun c35 => ?_) (fun c35 => ?_)
      · refine lv_iconst (v := (nI 3)) hx hb dX0_reached_42 (by decide) ?_
        exact rt_ri hx hb hr hlk dX0_reached_43 (congrArg nI (rc3 c13 c24 c35))
      · refine lv_iconst (v := (nI 2)) hx hb dX0_reached_38 (by decide) ?_
        refine lv_goto (tgt := 43) hx hb dX0_reached_39 (by decide) ?_
        exact rt_ri hx hb hr hlk dX0_reached_43 (congrArg nI (rc2 c13 c24 c35))
    · refine lv_iconst (v := (nI 1)) hx hb dX0_reached_27 (by decide) ?_
      exact rt_ri hx hb hr hlk dX0_reached_28 (congrArg nI (rc1 c13 c24))
  · refine lv_iconst (v := (nI 0)) hx hb dX0_reached_16 (by decide) ?_
    exact rt_ri hx hb hr hlk dX0_reached_17 (congrArg nI (rc0 c13))
set_option maxHeartbeats 4000000 in
/-- isFound(w) -/
theorem metX0_isFound (l : Launch) (D : va_G) (dB : ClassId) (ad : Nat → Nat) (P sz n0 n1 n2 kn fo : Nat) (ln wt sy qu ha tc : Nat → Nat) (w : Nat) (hw : w < 10) (hf : fo < 1024) : Met l yX0_isFound (ws_ yX0_isFound cX0_isFound 2 (some .boolean)) (rmN 0 0) (PR D [(dB, .byte)] (xw dB ad P sz n0 n1 n2 kn fo ln wt sy qu ha tc) [.ref (ad 0), .int (nI w)]) (vp_Si (fun r => r = (nI (Bool.toNat (fo.testBit w))))) 0 0 (fun _ => False) := by
  refine en_ro (by decide) (Nat.le_of_ble_eq_true rfl) ?_
  intro p e s m below meth c F hr hlk hK hP ls hl
  have hx := F.1
  have hb := F.2.1
  have F : CallFix p m c cX0_isFound 2 s [.ref (ad 0), .int (nI w)].toArray lw_all RX0 := F
  have hl : lv_has ls 2 [(0, .ref (ad 0)), (1, .int (nI w))] := hl
  refine lv_aload_n hx hb dX0_isFound_0 rfl (lv_at hl 0 rfl) ?_
  refine gx F hK hP rfl 12 (by decide) q46 rfl dX0_isFound_1 ?_
  refine lv_iload_n hx hb dX0_isFound_4 rfl (lv_at hl 1 rfl) ?_
  refine nv_ishr hx hb (by omega) (by omega) dX0_isFound_5 ?_
  refine lv_iconst (v := (nI 1)) hx hb dX0_isFound_6 (by decide) ?_
  refine nv_iand hx hb dX0_isFound_7 ?_
  rw [show (fo >>> w) &&& 1 = Bool.toNat (fo.testBit w) from nv_tb1 fo w]
  refine nv_beq (tgt := 15) hx hb dX0_isFound_8 (by decide) (fun c8 => ?_) (fun c8 => ?_)
  · refine lv_iconst (v := (nI 0)) hx hb dX0_isFound_15 (by decide) ?_
    exact rt_rz hx hb hr hlk dX0_isFound_16 rfl (by rw [c8]; rfl)
  · refine lv_iconst (v := (nI 1)) hx hb dX0_isFound_11 (by decide) ?_
    refine lv_goto (tgt := 16) hx hb dX0_isFound_12 (by decide) ?_
    exact rt_rz hx hb hr hlk dX0_isFound_16 rfl (by rw [c8]; rfl)
set_option maxHeartbeats 4000000 in
/-- isQuery(w) -/
theorem metX0_isQuery (l : Launch) (D : va_G) (dB : ClassId) (ad : Nat → Nat) (P sz n0 n1 n2 kn fo : Nat) (ln wt sy qu ha tc : Nat → Nat) (w : Nat) (hI : xI P sz ln wt sy qu) (hw : w < 10) : Met l yX0_isQuery (ws_ yX0_isQuery cX0_isQuery 3 (some .boolean)) (rmN 0 0) (PR D [(dB, .byte)] (xw dB ad P sz n0 n1 n2 kn fo ln wt sy qu ha tc) [.ref (ad 0), .int (nI w)]) (vp_Si (fun r => r = (nI (Bool.toNat (exB sz ln sy qu w))))) 0 0 (fun _ => False) := by
  refine en_ro (by decide) (Nat.le_of_ble_eq_true rfl) ?_
  intro p e s m below meth c F hr hlk hK hP ls hl
  have hx := F.1
  have hb := F.2.1
  have F : CallFix p m c cX0_isQuery 3 s [.ref (ad 0), .int (nI w)].toArray lw_all RX0 := F
  have hl : lv_has ls 3 [(0, .ref (ad 0)), (1, .int (nI w))] := hl
  obtain ⟨hI1, hs6, hln, hwt, hsy, hqu⟩ := id hI
  refine lv_aload_n hx hb dX0_isQuery_0 rfl (lv_at hl 0 rfl) ?_
  refine gx F hK hP rfl 1 (by decide) q35 rfl dX0_isQuery_1 ?_
  refine lv_iload_n hx hb dX0_isQuery_4 rfl (lv_at hl 1 rfl) ?_
  refine nv_bald (f := ln) (n := 10) hx hb hK hP 1 0 rfl rfl (by omega) (by decide) dX0_isQuery_5 ?_
  have hbd1 := hln w
  refine lv_aload_n hx hb dX0_isQuery_6 rfl (lv_at hl 0 rfl) ?_
  refine gx F hK hP rfl 5 (by decide) q39 rfl dX0_isQuery_7 ?_
  refine nv_ceq (tgt := 15) hx hb dX0_isQuery_10 (by decide) (by omega) (by omega) (fun c10 => ?_) (fun c10 => ?_)
  · refine lv_iconst (v := (nI 0)) hx hb dX0_isQuery_15 (by decide) ?_
    refine lv_istore_n (lv' := [(2, .int (nI 0)), (0, .ref (ad 0)), (1, .int (nI w))]) hx hb dX0_isQuery_16 rfl hl (by decide) rfl (fun ls hl => ?_)
    refine lp_r1 (I := fun (k : Nat) ls => lv_has ls 3 [(0, .ref (ad 0)), (1, .int (nI w)), (2, .int (nI k))] ∧ (k ≤ sz) ∧ (∀ i, i < k → sy (6 * w + i) = qu i)) (μ := fun (k : Nat) => sz - k) ?_ 0 _ ⟨lv_sub hl [1, 2, 0] rfl, Nat.zero_le _, (fun i hi => absurd hi (Nat.not_lt_zero i))⟩
    intro k ls hI0 ih17
    obtain ⟨hl, hk, hin⟩ := hI0
    have hl : lv_has ls 3 [(0, .ref (ad 0)), (1, .int (nI w)), (2, .int (nI k))] := hl
    refine lv_iload_n hx hb dX0_isQuery_17 rfl (lv_at hl 2 rfl) ?_
    refine lv_aload_n hx hb dX0_isQuery_18 rfl (lv_at hl 0 rfl) ?_
    refine gx F hK hP rfl 5 (by decide) q39 rfl dX0_isQuery_19 ?_
    refine nv_cge (tgt := 53) hx hb dX0_isQuery_22 (by decide) (by omega) (by omega) (fun c22 => ?_) (fun c22 => ?_)
    · refine lv_iconst (v := (nI 1)) hx hb dX0_isQuery_53 (by decide) ?_
      exact rt_rz hx hb hr hlk dX0_isQuery_54 rfl (by rw [exB_t c10 (fun i hi => hin i (by omega))]; rfl)
    · refine lv_aload_n hx hb dX0_isQuery_25 rfl (lv_at hl 0 rfl) ?_
      refine gx F hK hP rfl 3 (by decide) q37 rfl dX0_isQuery_26 ?_
      refine lv_iload_n hx hb dX0_isQuery_29 rfl (lv_at hl 1 rfl) ?_
      refine lv_bipush (v := (nI 6)) hx hb dX0_isQuery_30 (by decide) ?_
      refine nv_imulc hx hb dX0_isQuery_32 ?_
      refine lv_iload_n hx hb dX0_isQuery_33 rfl (lv_at hl 2 rfl) ?_
      refine nv_iadd hx hb dX0_isQuery_34 ?_
      refine nv_bald (f := sy) (n := 60) hx hb hK hP 3 0 rfl rfl (by omega) (by decide) dX0_isQuery_35 ?_
      have hbd2 := hsy ((6 * w) + k)
      refine lv_aload_n hx hb dX0_isQuery_36 rfl (lv_at hl 0 rfl) ?_
      refine gx F hK hP rfl 4 (by decide) q38 rfl dX0_isQuery_37 ?_
      refine lv_iload_n hx hb dX0_isQuery_40 rfl (lv_at hl 2 rfl) ?_
      refine nv_bald (f := qu) (n := 6) hx hb hK hP 4 0 rfl rfl (by omega) (by decide) dX0_isQuery_41 ?_
      have hbd3 := hqu k
      refine nv_ceq (tgt := 47) hx hb dX0_isQuery_42 (by decide) (by omega) (by omega) (fun c42 => ?_) (fun c42 => ?_)
      · refine lv_iinc (v := nI (k + 1)) (lv' := [(2, .int (nI (k + 1))), (0, .ref (ad 0)), (1, .int (nI w))]) hx hb dX0_isQuery_47 hl (k := 2) rfl (nv_inc _) (by decide) rfl (fun ls hl => ?_)
        refine lv_goto (tgt := 17) hx hb dX0_isQuery_50 (by decide) ?_
        exact ih17 (k + 1) _ (by first | omega | (dsimp only; omega)) ⟨lv_sub hl [1, 2, 0] rfl, (by omega), (lt_s hin c42)⟩
      · refine lv_iconst (v := (nI 0)) hx hb dX0_isQuery_45 (by decide) ?_
        exact rt_rz hx hb hr hlk dX0_isQuery_46 rfl (by rw [exB_f2 c22 c42]; rfl)
  · refine lv_iconst (v := (nI 0)) hx hb dX0_isQuery_13 (by decide) ?_
    exact rt_rz hx hb hr hlk dX0_isQuery_14 rfl (by rw [exB_f1 c10]; rfl)
set_option maxHeartbeats 4000000 in
/-- goesBefore(v, w) -/
theorem metX0_goesBefore (l : Launch) (D : va_G) (dB : ClassId) (ad : Nat → Nat) (P sz n0 n1 n2 kn fo : Nat) (ln wt sy qu ha tc : Nat → Nat) (v : Nat) (w : Nat) (hI : xI P sz ln wt sy qu) (htc : ∀ j, tc j ≤ 3) (hv : v < 10) (hw : w < 10) : Met l yX0_goesBefore (ws_ yX0_goesBefore cX0_goesBefore 4 (some .boolean)) (rmN 1 22) (PR D [(dB, .byte)] (xw dB ad P sz n0 n1 n2 kn fo ln wt sy qu ha tc) [.ref (ad 0), .int (nI v), .int (nI w)]) (vp_Si (fun r => r = (nI (Bool.toNat (gb (tc v) (tc w) (exB sz ln sy qu v) (exB sz ln sy qu w) (ln v) (ln w) (wt v) (wt w) v w))))) 0 0 (fun _ => False) := by
  refine en_ro (by decide) (Nat.le_of_ble_eq_true rfl) ?_
  intro p e s m below meth c F hr hlk hK hP ls hl
  have hx := F.1
  have hb := F.2.1
  have F : CallFix p m c cX0_goesBefore 4 s [.ref (ad 0), .int (nI v), .int (nI w)].toArray lw_all RX0 := F
  have hl : lv_has ls 4 [(0, .ref (ad 0)), (1, .int (nI v)), (2, .int (nI w))] := hl
  obtain ⟨hI1, hs6, hln, hwt, hsy, hqu⟩ := id hI
  refine lv_aload_n hx hb dX0_goesBefore_0 rfl (lv_at hl 0 rfl) ?_
  refine gx F hK hP rfl 11 (by decide) q45 rfl dX0_goesBefore_1 ?_
  refine lv_iload_n hx hb dX0_goesBefore_4 rfl (lv_at hl 1 rfl) ?_
  refine nv_bald (f := tc) (n := 10) hx hb hK hP 6 0 rfl rfl (by omega) (by decide) dX0_goesBefore_5 ?_
  have hbd1 := htc v
  refine lv_aload_n hx hb dX0_goesBefore_6 rfl (lv_at hl 0 rfl) ?_
  refine gx F hK hP rfl 11 (by decide) q45 rfl dX0_goesBefore_7 ?_
  refine lv_iload_n hx hb dX0_goesBefore_10 rfl (lv_at hl 2 rfl) ?_
  refine nv_bald (f := tc) (n := 10) hx hb hK hP 6 0 rfl rfl (by omega) (by decide) dX0_goesBefore_11 ?_
  have hbd2 := htc w
  refine nv_ceq (tgt := 36) hx hb dX0_goesBefore_12 (by decide) (by omega) (by omega) (fun c12 => ?_) (fun c12 => ?_)
  · refine lv_aload_n hx hb dX0_goesBefore_36 rfl (lv_at hl 0 rfl) ?_
    refine lv_iload_n hx hb dX0_goesBefore_37 rfl (lv_at hl 1 rfl) ?_
    refine nc_ro (n := 1) (q0 := 0) (ci := 0) F (metX0_isQuery l D dB ad P sz n0 n1 n2 kn fo ln wt sy qu ha tc v hI (by omega)) (lw_V q174 q176 qs12 q24 q177) ⟨rfl, rfl⟩ (by decide +kernel) ⟨by decide, by decide⟩ hK hP rfl rfl rfl rfl hl rfl (Nat.le_of_ble_eq_true rfl) dX0_goesBefore_38 ⟨by decide, by decide⟩ (fun r38 hr38 => ?_)
    have hr38 : r38 = (nI (Bool.toNat (exB sz ln sy qu v))) := hr38
    subst hr38
    refine lv_istore_n (lv' := [(3, .int (nI (Bool.toNat (exB sz ln sy qu v)))), (0, .ref (ad 0)), (1, .int (nI v)), (2, .int (nI w))]) hx hb dX0_goesBefore_41 rfl hl (by decide) rfl (fun ls hl => ?_)
    refine lv_iload_n hx hb dX0_goesBefore_42 rfl (lv_at hl 0 rfl) ?_
    refine lv_aload_n hx hb dX0_goesBefore_43 rfl (lv_at hl 1 rfl) ?_
    refine lv_iload_n hx hb dX0_goesBefore_44 rfl (lv_at hl 3 rfl) ?_
    refine nc_ro (n := 1) (q0 := 0) (ci := 0) F (metX0_isQuery l D dB ad P sz n0 n1 n2 kn fo ln wt sy qu ha tc w hI (by omega)) (lw_V q174 q176 qs12 q24 q177) ⟨rfl, rfl⟩ (by decide +kernel) ⟨by decide, by decide⟩ hK hP rfl rfl rfl rfl hl rfl (Nat.le_of_ble_eq_true rfl) dX0_goesBefore_45 ⟨by decide, by decide⟩ (fun r45 hr45 => ?_)
    have hr45 : r45 = (nI (Bool.toNat (exB sz ln sy qu w))) := hr45
    subst hr45
    refine nv_bceq (tgt := 53) hx hb dX0_goesBefore_48 (by decide) (fun c48 => ?_) (fun c48 => ?_)
    · refine lv_aload_n hx hb dX0_goesBefore_53 rfl (lv_at hl 1 rfl) ?_
      refine gx F hK hP rfl 1 (by decide) q35 rfl dX0_goesBefore_54 ?_
      refine lv_iload_n hx hb dX0_goesBefore_57 rfl (lv_at hl 2 rfl) ?_
      refine nv_bald (f := ln) (n := 10) hx hb hK hP 1 0 rfl rfl (by omega) (by decide) dX0_goesBefore_58 ?_
      have hbd3 := hln v
      refine lv_aload_n hx hb dX0_goesBefore_59 rfl (lv_at hl 1 rfl) ?_
      refine gx F hK hP rfl 1 (by decide) q35 rfl dX0_goesBefore_60 ?_
      refine lv_iload_n hx hb dX0_goesBefore_63 rfl (lv_at hl 3 rfl) ?_
      refine nv_bald (f := ln) (n := 10) hx hb hK hP 1 0 rfl rfl (by omega) (by decide) dX0_goesBefore_64 ?_
      have hbd4 := hln w
      refine nv_ceq (tgt := 89) hx hb dX0_goesBefore_65 (by decide) (by omega) (by omega) (fun c65 => ?_) (fun c65 => ?_)
      · refine lv_aload_n hx hb dX0_goesBefore_89 rfl (lv_at hl 1 rfl) ?_
        refine gx F hK hP rfl 2 (by decide) q36 rfl dX0_goesBefore_90 ?_
        refine lv_iload_n hx hb dX0_goesBefore_93 rfl (lv_at hl 2 rfl) ?_
        refine nv_bald (f := wt) (n := 10) hx hb hK hP 2 0 rfl rfl (by omega) (by decide) dX0_goesBefore_94 ?_
        have hbd5 := hwt v
        refine lv_aload_n hx hb dX0_goesBefore_95 rfl (lv_at hl 1 rfl) ?_
        refine gx F hK hP rfl 2 (by decide) q36 rfl dX0_goesBefore_96 ?_
        refine lv_iload_n hx hb dX0_goesBefore_99 rfl (lv_at hl 3 rfl) ?_
        refine nv_bald (f := wt) (n := 10) hx hb hK hP 2 0 rfl rfl (by omega) (by decide) dX0_goesBefore_100 ?_
        have hbd6 := hwt w
        refine nv_ceq (tgt := 127) hx hb dX0_goesBefore_101 (by decide) (by omega) (by omega) (fun c101 => ?_) (fun c101 => ?_)
        · refine lv_iload_n hx hb dX0_goesBefore_127 rfl (lv_at hl 2 rfl) ?_
          refine lv_iload_n hx hb dX0_goesBefore_128 rfl (lv_at hl 3 rfl) ?_
          refine nv_cge (tgt := 136) hx hb dX0_goesBefore_129 (by decide) (by omega) (by omega) (fun c129 => ?_) (fun c129 => ?_)
          · refine lv_iconst (v := (nI 0)) hx hb dX0_goesBefore_136 (by decide) ?_
            exact rt_rz hx hb hr hlk dX0_goesBefore_137 rfl (by unfold gb; rw [if_pos c12, if_pos c48, if_pos c65, if_pos c101, decide_eq_false (by omega)]; rfl)
          · refine lv_iconst (v := (nI 1)) hx hb dX0_goesBefore_132 (by decide) ?_
            refine lv_goto (tgt := 137) hx hb dX0_goesBefore_133 (by decide) ?_
            exact rt_rz hx hb hr hlk dX0_goesBefore_137 rfl (by unfold gb; rw [if_pos c12, if_pos c48, if_pos c65, if_pos c101, decide_eq_true (by omega)]; rfl)
        · refine lv_aload_n hx hb dX0_goesBefore_104 rfl (lv_at hl 1 rfl) ?_
          refine gx F hK hP rfl 2 (by decide) q36 rfl dX0_goesBefore_105 ?_
          refine lv_iload_n hx hb dX0_goesBefore_108 rfl (lv_at hl 2 rfl) ?_
          refine nv_bald (f := wt) (n := 10) hx hb hK hP 2 0 rfl rfl (by omega) (by decide) dX0_goesBefore_109 ?_
          have hbd7 := hwt v
          refine lv_aload_n hx hb dX0_goesBefore_110 rfl (lv_at hl 1 rfl) ?_
          refine gx F hK hP rfl 2 (by decide) q36 rfl dX0_goesBefore_111 ?_
          refine lv_iload_n hx hb dX0_goesBefore_114 rfl (lv_at hl 3 rfl) ?_
          refine nv_bald (f := wt) (n := 10) hx hb hK hP 2 0 rfl rfl (by omega) (by decide) dX0_goesBefore_115 ?_
          have hbd8 := hwt w
          refine nv_cle (tgt := 123) hx hb dX0_goesBefore_116 (by decide) (by omega) (by omega) (fun c116 => ?_) (fun c116 => ?_)
          · refine lv_iconst (v := (nI 0)) hx hb dX0_goesBefore_123 (by decide) ?_
            refine lv_goto (tgt := 137) hx hb dX0_goesBefore_124 (by decide) ?_
            exact rt_rz hx hb hr hlk dX0_goesBefore_137 rfl (by unfold gb; rw [if_pos c12, if_pos c48, if_pos c65, if_neg c101, decide_eq_false (by omega)]; rfl)
          · refine lv_iconst (v := (nI 1)) hx hb dX0_goesBefore_119 (by decide) ?_
            refine lv_goto (tgt := 137) hx hb dX0_goesBefore_120 (by decide) ?_
            exact rt_rz hx hb hr hlk dX0_goesBefore_137 rfl (by unfold gb; rw [if_pos c12, if_pos c48, if_pos c65, if_neg c101, decide_eq_true (by omega)]; rfl)
      · refine lv_aload_n hx hb dX0_goesBefore_68 rfl (lv_at hl 1 rfl) ?_
        refine gx F hK hP rfl 1 (by decide) q35 rfl dX0_goesBefore_69 ?_
        refine lv_iload_n hx hb dX0_goesBefore_72 rfl (lv_at hl 2 rfl) ?_
        refine nv_bald (f := ln) (n := 10) hx hb hK hP 1 0 rfl rfl (by omega) (by decide) dX0_goesBefore_73 ?_
        have hbd9 := hln v
        refine lv_aload_n hx hb dX0_goesBefore_74 rfl (lv_at hl 1 rfl) ?_
        refine gx F hK hP rfl 1 (by decide) q35 rfl dX0_goesBefore_75 ?_
        refine lv_iload_n hx hb dX0_goesBefore_78 rfl (lv_at hl 3 rfl) ?_
        refine nv_bald (f := ln) (n := 10) hx hb hK hP 1 0 rfl rfl (by omega) (by decide) dX0_goesBefore_79 ?_
        have hbd10 := hln w
        refine nv_cge (tgt := 87) hx hb dX0_goesBefore_80 (by decide) (by omega) (by omega) (fun c80 => ?_) (fun c80 => ?_)
        · refine lv_iconst (v := (nI 0)) hx hb dX0_goesBefore_87 (by decide) ?_
          exact rt_rz hx hb hr hlk dX0_goesBefore_88 rfl (by unfold gb; rw [if_pos c12, if_pos c48, if_neg c65, decide_eq_false (by omega)]; rfl)
        · refine lv_iconst (v := (nI 1)) hx hb dX0_goesBefore_83 (by decide) ?_
          refine lv_goto (tgt := 88) hx hb dX0_goesBefore_84 (by decide) ?_
          exact rt_rz hx hb hr hlk dX0_goesBefore_88 rfl (by unfold gb; rw [if_pos c12, if_pos c48, if_neg c65, decide_eq_true (by omega)]; rfl)
    · refine lv_iload_n hx hb dX0_goesBefore_51 rfl (lv_at hl 0 rfl) ?_
      exact rt_rz hx hb hr hlk dX0_goesBefore_52 (nv_nz _) (by unfold gb; rw [if_pos c12, if_neg c48])
  · refine lv_aload_n hx hb dX0_goesBefore_15 rfl (lv_at hl 0 rfl) ?_
    refine gx F hK hP rfl 11 (by decide) q45 rfl dX0_goesBefore_16 ?_
    refine lv_iload_n hx hb dX0_goesBefore_19 rfl (lv_at hl 1 rfl) ?_
    refine nv_bald (f := tc) (n := 10) hx hb hK hP 6 0 rfl rfl (by omega) (by decide) dX0_goesBefore_20 ?_
    have hbd11 := htc v
    refine lv_aload_n hx hb dX0_goesBefore_21 rfl (lv_at hl 0 rfl) ?_
    refine gx F hK hP rfl 11 (by decide) q45 rfl dX0_goesBefore_22 ?_
    refine lv_iload_n hx hb dX0_goesBefore_25 rfl (lv_at hl 2 rfl) ?_
    refine nv_bald (f := tc) (n := 10) hx hb hK hP 6 0 rfl rfl (by omega) (by decide) dX0_goesBefore_26 ?_
    have hbd12 := htc w
    refine nv_cge (tgt := 34) hx hb dX0_goesBefore_27 (by decide) (by omega) (by omega) (fun c27 => ?_) (fun c27 => ?_)
    · refine lv_iconst (v := (nI 0)) hx hb dX0_goesBefore_34 (by decide) ?_
      exact rt_rz hx hb hr hlk dX0_goesBefore_35 rfl (by unfold gb; rw [if_neg c12, decide_eq_false (by omega)]; rfl)
    · refine lv_iconst (v := (nI 1)) hx hb dX0_goesBefore_30 (by decide) ?_
      refine lv_goto (tgt := 35) hx hb dX0_goesBefore_31 (by decide) ?_
      exact rt_rz hx hb hr hlk dX0_goesBefore_35 rfl (by unfold gb; rw [if_neg c12, decide_eq_true (by omega)]; rfl)
set_option maxHeartbeats 4000000 in
/-- shared(v, w, mo) -/
theorem metX0_shared (l : Launch) (D : va_G) (dB : ClassId) (ad : Nat → Nat) (P sz n0 n1 n2 kn fo : Nat) (ln wt sy qu ha tc : Nat → Nat) (v : Nat) (w : Nat) (mo : Nat) (hI : xI P sz ln wt sy qu) (hv : v < 10) (hw : w < 10) (hmo : mo ≤ 6) : Met l yX0_shared (ws_ yX0_shared cX0_shared 5 (some .int)) (rmN 0 0) (PR D [(dB, .byte)] (xw dB ad P sz n0 n1 n2 kn fo ln wt sy qu ha tc) [.ref (ad 0), .int (nI v), .int (nI w), .int (nI mo)]) (vp_Si (fun r => ∃ q, r = nI q ∧ shR ln sy v w mo q)) 0 0 (fun _ => False) := by
  refine en_ro (by decide) (Nat.le_of_ble_eq_true rfl) ?_
  intro p e s m below meth c F hr hlk hK hP ls hl
  have hx := F.1
  have hb := F.2.1
  have F : CallFix p m c cX0_shared 5 s [.ref (ad 0), .int (nI v), .int (nI w), .int (nI mo)].toArray lw_all RX0 := F
  have hl : lv_has ls 5 [(0, .ref (ad 0)), (1, .int (nI v)), (2, .int (nI w)), (3, .int (nI mo))] := hl
  obtain ⟨hI1, hs6, hln, hwt, hsy, hqu⟩ := id hI
  refine lv_iconst (v := (nI 0)) hx hb dX0_shared_0 (by decide) ?_
  refine lv_istore (lv' := [(4, .int (nI 0)), (0, .ref (ad 0)), (1, .int (nI v)), (2, .int (nI w)), (3, .int (nI mo))]) hx hb dX0_shared_1 hl (by decide) rfl (fun ls hl => ?_)
  refine lp_r1 (I := fun (k : Nat) ls => lv_has ls 5 [(0, .ref (ad 0)), (1, .int (nI v)), (2, .int (nI w)), (3, .int (nI mo)), (4, .int (nI k))] ∧ (k ≤ mo) ∧ (k ≤ ln w) ∧ (∀ i, i < k → sy (6 * v + i) = sy (6 * w + i))) (μ := fun (k : Nat) => mo - k) ?_ 0 _ ⟨lv_sub hl [1, 2, 3, 4, 0] rfl, Nat.zero_le _, Nat.zero_le _, (fun i hi => absurd hi (Nat.not_lt_zero i))⟩
  intro k ls hI0 ih3
  obtain ⟨hl, hk1, hk2, hin⟩ := hI0
  have hl : lv_has ls 5 [(0, .ref (ad 0)), (1, .int (nI v)), (2, .int (nI w)), (3, .int (nI mo)), (4, .int (nI k))] := hl
  refine lv_iload hx hb dX0_shared_3 (lv_at hl 4 rfl) ?_
  refine lv_iload_n hx hb dX0_shared_5 rfl (lv_at hl 3 rfl) ?_
  refine nv_cge (tgt := 53) hx hb dX0_shared_6 (by decide) (by omega) (by omega) (fun c6 => ?_) (fun c6 => ?_)
  · refine lv_iload hx hb dX0_shared_53 (lv_at hl 4 rfl) ?_
    exact rt_ri hx hb hr hlk dX0_shared_55 ⟨k, rfl, hk1, hk2, hin, Or.inl (by omega)⟩
  · refine lv_iload hx hb dX0_shared_9 (lv_at hl 4 rfl) ?_
    refine lv_aload_n hx hb dX0_shared_11 rfl (lv_at hl 0 rfl) ?_
    refine gx F hK hP rfl 1 (by decide) q35 rfl dX0_shared_12 ?_
    refine lv_iload_n hx hb dX0_shared_15 rfl (lv_at hl 2 rfl) ?_
    refine nv_bald (f := ln) (n := 10) hx hb hK hP 1 0 rfl rfl (by omega) (by decide) dX0_shared_16 ?_
    have hbd1 := hln w
    refine nv_cge (tgt := 53) hx hb dX0_shared_17 (by decide) (by omega) (by omega) (fun c17 => ?_) (fun c17 => ?_)
    · refine lv_iload hx hb dX0_shared_53 (lv_at hl 4 rfl) ?_
      exact rt_ri hx hb hr hlk dX0_shared_55 ⟨k, rfl, hk1, hk2, hin, Or.inr (Or.inl (by omega))⟩
    · refine lv_aload_n hx hb dX0_shared_20 rfl (lv_at hl 0 rfl) ?_
      refine gx F hK hP rfl 3 (by decide) q37 rfl dX0_shared_21 ?_
      refine lv_iload_n hx hb dX0_shared_24 rfl (lv_at hl 1 rfl) ?_
      refine lv_bipush (v := (nI 6)) hx hb dX0_shared_25 (by decide) ?_
      refine nv_imulc hx hb dX0_shared_27 ?_
      refine lv_iload hx hb dX0_shared_28 (lv_at hl 4 rfl) ?_
      refine nv_iadd hx hb dX0_shared_30 ?_
      refine nv_bald (f := sy) (n := 60) hx hb hK hP 3 0 rfl rfl (by omega) (by decide) dX0_shared_31 ?_
      have hbd2 := hsy ((6 * v) + k)
      refine lv_aload_n hx hb dX0_shared_32 rfl (lv_at hl 0 rfl) ?_
      refine gx F hK hP rfl 3 (by decide) q37 rfl dX0_shared_33 ?_
      refine lv_iload_n hx hb dX0_shared_36 rfl (lv_at hl 2 rfl) ?_
      refine lv_bipush (v := (nI 6)) hx hb dX0_shared_37 (by decide) ?_
      refine nv_imulc hx hb dX0_shared_39 ?_
      refine lv_iload hx hb dX0_shared_40 (lv_at hl 4 rfl) ?_
      refine nv_iadd hx hb dX0_shared_42 ?_
      refine nv_bald (f := sy) (n := 60) hx hb hK hP 3 0 rfl rfl (by omega) (by decide) dX0_shared_43 ?_
      have hbd3 := hsy ((6 * w) + k)
      refine nv_cne (tgt := 53) hx hb dX0_shared_44 (by decide) (by omega) (by omega) (fun c44 => ?_) (fun c44 => ?_)
      · refine lv_iload hx hb dX0_shared_53 (lv_at hl 4 rfl) ?_
        exact rt_ri hx hb hr hlk dX0_shared_55 ⟨k, rfl, hk1, hk2, hin, Or.inr (Or.inr c44)⟩
      · refine lv_iinc (v := nI (k + 1)) (lv' := [(4, .int (nI (k + 1))), (0, .ref (ad 0)), (1, .int (nI v)), (2, .int (nI w)), (3, .int (nI mo))]) hx hb dX0_shared_47 hl (k := 4) rfl (nv_inc _) (by decide) rfl (fun ls hl => ?_)
        refine lv_goto (tgt := 3) hx hb dX0_shared_50 (by decide) ?_
        exact ih3 (k + 1) _ (by first | omega | (dsimp only; omega)) ⟨lv_sub hl [1, 2, 3, 4, 0] rfl, (by omega), (by omega), (lt_s hin c44)⟩
end
section
set_option maxRecDepth 100000
set_option maxHeartbeats 4000000 in
/-- leaveOut() -/
theorem metX0_leaveOut (l : Launch) (D : va_G) (dB : ClassId) (ad : Nat → Nat) (P sz n0 n1 n2 kn fo : Nat) (ln wt sy qu ha tc : Nat → Nat)  (hs6 : sz ≤ 6) (hsz : Nat) : Met l yX0_leaveOut (ws_ yX0_leaveOut cX0_leaveOut 1 none) (rmN 1 23) (PW D [(dB, .byte)] (xw dB ad P sz n0 n1 n2 kn fo ln wt sy qu ha tc) [.ref (ad 0)] hsz) (QV D [(dB, .byte)] (fun (u : Nat × Nat) => u.1 = loO sz n0 n1 ∧ u.2 = loT sz n0 n1 n2) (fun u : Nat × Nat => (xw dB ad P sz n0 u.1 u.2 kn fo ln wt sy qu ha tc)) (va_A (xw dB ad P sz n0 n1 n2 kn fo ln wt sy qu ha tc) hsz)) 0 0 (va_A (xw dB ad P sz n0 n1 n2 kn fo ln wt sy qu ha tc) hsz) := by
  refine en_wv (by decide) (Nat.le_of_ble_eq_true rfl) ?_
  intro p e s m below meth c F hr hlk A hA hK hP hD hS ls hl
  have hx := F.1
  have hb := F.2.1
  have F : CallFix p m c cX0_leaveOut 1 s [.ref (ad 0)].toArray lw_all RX0 := F
  have hl : lv_has ls 1 [(0, .ref (ad 0))] := hl
  refine lv_aload_n hx hb dX0_leaveOut_0 rfl (lv_at hl 0 rfl) ?_
  refine lv_dup hx hb dX0_leaveOut_1 rfl ?_
  refine gx F hK hP rfl 8 (by decide) q42 rfl dX0_leaveOut_2 ?_
  refine lv_aload_n hx hb dX0_leaveOut_5 rfl (lv_at hl 0 rfl) ?_
  refine lv_aload_n hx hb dX0_leaveOut_6 rfl (lv_at hl 0 rfl) ?_
  refine gx F hK hP rfl 7 (by decide) q41 rfl dX0_leaveOut_7 ?_
  refine lv_iconst (v := (nI 0)) hx hb dX0_leaveOut_10 (by decide) ?_
  refine nc_ro (n := 2) (q0 := 0) (ci := 0) F (metX0_movable l D dB ad P sz n0 n1 n2 kn fo ln wt sy qu ha tc n0 false hs6) (lw_V q126 q128 qs6 q24 q129) ⟨rfl, rfl⟩ (by decide +kernel) ⟨by decide, by decide⟩ hK hP rfl rfl rfl rfl hl rfl (Nat.le_of_ble_eq_true rfl) dX0_leaveOut_11 ⟨by decide, by decide⟩ (fun r11 hr11 => ?_)
  have hr11 : r11 = (nI (mvB sz n0 false)) := hr11
  subst hr11
  refine lv_iconst (v := (nI 1)) hx hb dX0_leaveOut_14 (by decide) ?_
  refine nv_ishl hx hb (by omega) dX0_leaveOut_15 ?_
  refine nv_ior hx hb dX0_leaveOut_16 ?_
  refine px (ty := .int) F hK hP hD hS rfl 8 (by decide) q42 rfl (by decide +kernel) rfl rfl (Nat.le_of_ble_eq_true rfl) dX0_leaveOut_17 (fun H locs hP hD hS => ?_)
  have hP : va_P D vwCl (xw dB ad P sz n0 (n1 ||| ((mvB sz n0 false) <<< 1)) n2 kn fo ln wt sy qu ha tc) H := hP
  have hD : va_D A (xw dB ad P sz n0 (n1 ||| ((mvB sz n0 false) <<< 1)) n2 kn fo ln wt sy qu ha tc) := hD
  refine lv_aload_n hx hb dX0_leaveOut_20 rfl (lv_at hl 0 rfl) ?_
  refine lv_dup hx hb dX0_leaveOut_21 rfl ?_
  refine gx F hK hP rfl 9 (by decide) q43 rfl dX0_leaveOut_22 ?_
  refine lv_aload_n hx hb dX0_leaveOut_25 rfl (lv_at hl 0 rfl) ?_
  refine lv_aload_n hx hb dX0_leaveOut_26 rfl (lv_at hl 0 rfl) ?_
  refine gx F hK hP rfl 8 (by decide) q42 rfl dX0_leaveOut_27 ?_
  refine lv_iconst (v := (nI 0)) hx hb dX0_leaveOut_30 (by decide) ?_
  refine nc_ro (n := 2) (q0 := 0) (ci := 0) F (metX0_movable l D dB ad P sz n0 (n1 ||| ((mvB sz n0 false) <<< 1)) n2 kn fo ln wt sy qu ha tc (n1 ||| ((mvB sz n0 false) <<< 1)) false hs6) (lw_V q126 q128 qs6 q24 q129) ⟨rfl, rfl⟩ (by decide +kernel) ⟨by decide, by decide⟩ hK hP rfl rfl rfl rfl hl rfl (Nat.le_of_ble_eq_true rfl) dX0_leaveOut_31 ⟨by decide, by decide⟩ (fun r31 hr31 => ?_)
  have hr31 : r31 = (nI (mvB sz ((n1 ||| ((mvB sz n0 false) <<< 1))) false)) := hr31
  subst hr31
  refine lv_iconst (v := (nI 1)) hx hb dX0_leaveOut_34 (by decide) ?_
  refine nv_ishl hx hb (by omega) dX0_leaveOut_35 ?_
  refine nv_ior hx hb dX0_leaveOut_36 ?_
  refine px (ty := .int) F hK hP hD hS rfl 9 (by decide) q43 rfl (by decide +kernel) rfl rfl (Nat.le_of_ble_eq_true rfl) dX0_leaveOut_37 (fun H locs hP hD hS => ?_)
  have hP : va_P D vwCl (xw dB ad P sz n0 (n1 ||| ((mvB sz n0 false) <<< 1)) (n2 ||| ((mvB sz ((n1 ||| ((mvB sz n0 false) <<< 1))) false) <<< 1)) kn fo ln wt sy qu ha tc) H := hP
  have hD : va_D A (xw dB ad P sz n0 (n1 ||| ((mvB sz n0 false) <<< 1)) (n2 ||| ((mvB sz ((n1 ||| ((mvB sz n0 false) <<< 1))) false) <<< 1)) kn fo ln wt sy qu ha tc) := hD
  refine lv_aload_n hx hb dX0_leaveOut_40 rfl (lv_at hl 0 rfl) ?_
  refine lv_dup hx hb dX0_leaveOut_41 rfl ?_
  refine gx F hK hP rfl 9 (by decide) q43 rfl dX0_leaveOut_42 ?_
  refine lv_aload_n hx hb dX0_leaveOut_45 rfl (lv_at hl 0 rfl) ?_
  refine lv_aload_n hx hb dX0_leaveOut_46 rfl (lv_at hl 0 rfl) ?_
  refine gx F hK hP rfl 7 (by decide) q41 rfl dX0_leaveOut_47 ?_
  refine lv_iconst (v := (nI 1)) hx hb dX0_leaveOut_50 (by decide) ?_
  refine nc_ro (n := 2) (q0 := 0) (ci := 0) F (metX0_movable l D dB ad P sz n0 (n1 ||| ((mvB sz n0 false) <<< 1)) (n2 ||| ((mvB sz ((n1 ||| ((mvB sz n0 false) <<< 1))) false) <<< 1)) kn fo ln wt sy qu ha tc n0 true hs6) (lw_V q126 q128 qs6 q24 q129) ⟨rfl, rfl⟩ (by decide +kernel) ⟨by decide, by decide⟩ hK hP rfl rfl rfl rfl hl rfl (Nat.le_of_ble_eq_true rfl) dX0_leaveOut_51 ⟨by decide, by decide⟩ (fun r51 hr51 => ?_)
  have hr51 : r51 = (nI (mvB sz n0 true)) := hr51
  subst hr51
  refine lv_iconst (v := (nI 1)) hx hb dX0_leaveOut_54 (by decide) ?_
  refine nv_ishl hx hb (by omega) dX0_leaveOut_55 ?_
  refine nv_ior hx hb dX0_leaveOut_56 ?_
  refine px (ty := .int) F hK hP hD hS rfl 9 (by decide) q43 rfl (by decide +kernel) rfl rfl (Nat.le_of_ble_eq_true rfl) dX0_leaveOut_57 (fun H locs hP hD hS => ?_)
  have hP : va_P D vwCl (xw dB ad P sz n0 (n1 ||| ((mvB sz n0 false) <<< 1)) ((n2 ||| ((mvB sz ((n1 ||| ((mvB sz n0 false) <<< 1))) false) <<< 1)) ||| ((mvB sz n0 true) <<< 1)) kn fo ln wt sy qu ha tc) H := hP
  have hD : va_D A (xw dB ad P sz n0 (n1 ||| ((mvB sz n0 false) <<< 1)) ((n2 ||| ((mvB sz ((n1 ||| ((mvB sz n0 false) <<< 1))) false) <<< 1)) ||| ((mvB sz n0 true) <<< 1)) kn fo ln wt sy qu ha tc) := hD
  exact rt_wv hx hb hr hlk dX0_leaveOut_60 hK hS (n1 ||| ((mvB sz n0 false) <<< 1), (n2 ||| ((mvB sz ((n1 ||| ((mvB sz n0 false) <<< 1))) false) <<< 1)) ||| ((mvB sz n0 true) <<< 1)) hP hD ⟨rfl, rfl⟩
set_option maxHeartbeats 4000000 in
/-- setOut() -/
theorem metX0_setOut (l : Launch) (D : va_G) (dB : ClassId) (ad : Nat → Nat) (P sz n0 n1 n2 kn fo : Nat) (ln wt sy qu ha tc : Nat → Nat)  (hI : xI P sz ln wt sy qu) (hsz : Nat) : Met l yX0_setOut (ws_ yX0_setOut cX0_setOut 3 none) (rmN 2 43) (PW D [(dB, .byte)] (xw dB ad P sz n0 n1 n2 kn fo ln wt sy qu ha tc) [.ref (ad 0)] hsz) (QV D [(dB, .byte)] (fun (u : (Nat → Nat) × Nat × Nat × Nat) => hvI qu sz u.1 ∧ u.2.1 = 1 ∧ u.2.2.1 = loO sz 1 0 ∧ u.2.2.2 = loT sz 1 0 0) (fun u : (Nat → Nat) × Nat × Nat × Nat => (xw dB ad P sz u.2.1 u.2.2.1 u.2.2.2 kn fo ln wt sy qu u.1 tc)) (va_A (xw dB ad P sz n0 n1 n2 kn fo ln wt sy qu ha tc) hsz)) 0 0 (va_A (xw dB ad P sz n0 n1 n2 kn fo ln wt sy qu ha tc) hsz) := by
  refine en_wv (by decide) (Nat.le_of_ble_eq_true rfl) ?_
  intro p e s m below meth c F hr hlk A hA hK hP hD hS ls hl
  have hx := F.1
  have hb := F.2.1
  have F : CallFix p m c cX0_setOut 3 s [.ref (ad 0)].toArray lw_all RX0 := F
  have hl : lv_has ls 3 [(0, .ref (ad 0))] := hl
  obtain ⟨hI1, hs6, hln, hwt, hsy, hqu⟩ := id hI
  refine lv_iconst (v := (nI 0)) hx hb dX0_setOut_0 (by decide) ?_
  refine lv_istore_n (lv' := [(1, .int (nI 0)), (0, .ref (ad 0))]) hx hb dX0_setOut_1 rfl hl (by decide) rfl (fun ls hl => ?_)
  refine lp_w2 (I := fun (i : Nat) (h1 : Nat → Nat) H locs ls => va_P D vwCl (xw dB ad P sz n0 n1 n2 kn fo ln wt sy qu h1 tc) H ∧ va_D A (xw dB ad P sz n0 n1 n2 kn fo ln wt sy qu h1 tc) ∧ va_S A s.heap H locs ∧ lv_has ls 3 [(0, .ref (ad 0)), (1, .int (nI i))] ∧ (i ≤ 4) ∧ (∀ q, q < i → h1 q = 0)) (μ := fun (i : Nat) (h1 : Nat → Nat) => 4 - i) ?_ 0 ha _ _ _ ⟨hP, hD, hS, lv_sub hl [1, 0] rfl, (Nat.zero_le _), (fun i hi => absurd hi (Nat.not_lt_zero i))⟩
  intro i h1 H locs ls hI0 ih2
  obtain ⟨hP, hD, hS, hl, hi, hz⟩ := hI0
  have hl : lv_has ls 3 [(0, .ref (ad 0)), (1, .int (nI i))] := hl
  have hP : va_P D vwCl (xw dB ad P sz n0 n1 n2 kn fo ln wt sy qu h1 tc) H := hP
  have hD : va_D A (xw dB ad P sz n0 n1 n2 kn fo ln wt sy qu h1 tc) := hD
  refine lv_iload_n hx hb dX0_setOut_2 rfl (lv_at hl 1 rfl) ?_
  refine lv_iconst (v := (nI 4)) hx hb dX0_setOut_3 (by decide) ?_
  refine nv_cge (tgt := 20) hx hb dX0_setOut_4 (by decide) (by omega) (by omega) (fun c4 => ?_) (fun c4 => ?_)
  · refine lv_iconst (v := (nI 0)) hx hb dX0_setOut_20 (by decide) ?_
    refine lv_istore_n (lv' := [(1, .int (nI 0)), (0, .ref (ad 0))]) hx hb dX0_setOut_21 rfl hl (by decide) rfl (fun ls hl => ?_)
    refine lp_w2 (I := fun (k : Nat) (h2 : Nat → Nat) H locs ls => va_P D vwCl (xw dB ad P sz n0 n1 n2 kn fo ln wt sy qu h2 tc) H ∧ va_D A (xw dB ad P sz n0 n1 n2 kn fo ln wt sy qu h2 tc) ∧ va_S A s.heap H locs ∧ lv_has ls 3 [(0, .ref (ad 0)), (1, .int (nI k))] ∧ (k ≤ sz) ∧ (hvI qu k h2)) (μ := fun (k : Nat) (h2 : Nat → Nat) => sz - k) ?_ 0 h1 _ _ _ ⟨hP, hD, hS, lv_sub hl [1, 0] rfl, (Nat.zero_le _), (hvI_0 (fun q hq => hz q (by omega)))⟩
    intro k h2 H locs ls hI0 ih22
    obtain ⟨hP, hD, hS, hl, hk, hv⟩ := hI0
    have hl : lv_has ls 3 [(0, .ref (ad 0)), (1, .int (nI k))] := hl
    have hP : va_P D vwCl (xw dB ad P sz n0 n1 n2 kn fo ln wt sy qu h2 tc) H := hP
    have hD : va_D A (xw dB ad P sz n0 n1 n2 kn fo ln wt sy qu h2 tc) := hD
    refine lv_iload_n hx hb dX0_setOut_22 rfl (lv_at hl 1 rfl) ?_
    refine lv_aload_n hx hb dX0_setOut_23 rfl (lv_at hl 0 rfl) ?_
    refine gx F hK hP rfl 5 (by decide) q39 rfl dX0_setOut_24 ?_
    refine nv_cge (tgt := 60) hx hb dX0_setOut_27 (by decide) (by omega) (by omega) (fun c27 => ?_) (fun c27 => ?_)
    · refine lv_aload_n hx hb dX0_setOut_60 rfl (lv_at hl 0 rfl) ?_
      refine lv_iconst (v := (nI 1)) hx hb dX0_setOut_61 (by decide) ?_
      refine px (ty := .int) F hK hP hD hS rfl 7 (by decide) q41 rfl (by decide +kernel) rfl rfl (Nat.le_of_ble_eq_true rfl) dX0_setOut_62 (fun H locs hP hD hS => ?_)
      have hP : va_P D vwCl (xw dB ad P sz 1 n1 n2 kn fo ln wt sy qu h2 tc) H := hP
      have hD : va_D A (xw dB ad P sz 1 n1 n2 kn fo ln wt sy qu h2 tc) := hD
      refine lv_aload_n hx hb dX0_setOut_65 rfl (lv_at hl 0 rfl) ?_
      refine lv_iconst (v := (nI 0)) hx hb dX0_setOut_66 (by decide) ?_
      refine px (ty := .int) F hK hP hD hS rfl 8 (by decide) q42 rfl (by decide +kernel) rfl rfl (Nat.le_of_ble_eq_true rfl) dX0_setOut_67 (fun H locs hP hD hS => ?_)
      have hP : va_P D vwCl (xw dB ad P sz 1 0 n2 kn fo ln wt sy qu h2 tc) H := hP
      have hD : va_D A (xw dB ad P sz 1 0 n2 kn fo ln wt sy qu h2 tc) := hD
      refine lv_aload_n hx hb dX0_setOut_70 rfl (lv_at hl 0 rfl) ?_
      refine lv_iconst (v := (nI 0)) hx hb dX0_setOut_71 (by decide) ?_
      refine px (ty := .int) F hK hP hD hS rfl 9 (by decide) q43 rfl (by decide +kernel) rfl rfl (Nat.le_of_ble_eq_true rfl) dX0_setOut_72 (fun H locs hP hD hS => ?_)
      have hP : va_P D vwCl (xw dB ad P sz 1 0 0 kn fo ln wt sy qu h2 tc) H := hP
      have hD : va_D A (xw dB ad P sz 1 0 0 kn fo ln wt sy qu h2 tc) := hD
      refine lv_aload_n hx hb dX0_setOut_75 rfl (lv_at hl 0 rfl) ?_
      refine nc_wv (n := 0) (q0 := 0) (ci := 0) (wr := []) F (metX0_leaveOut l D dB ad P sz 1 0 0 kn fo ln wt sy qu h2 tc  hs6 _) (lw_V q122 q124 qs5 q24 q125) ⟨rfl, rfl⟩ (by decide +kernel) ⟨by decide, by decide⟩ hK hP hD hS hA [0, 1, 2, 3, 4, 5, 6] [] rfl rfl rfl rfl rfl (by decide) rfl rfl rfl rfl hl rfl (Nat.le_of_ble_eq_true rfl) dX0_setOut_76 ⟨by decide, by decide⟩ (fun u H locs hr76o hP hD hS => ?_)
      obtain ⟨n1_1, n2_1⟩ := u
      have hP : va_P D vwCl (xw dB ad P sz 1 n1_1 n2_1 kn fo ln wt sy qu h2 tc) H := hP
      have hD : va_D A (xw dB ad P sz 1 n1_1 n2_1 kn fo ln wt sy qu h2 tc) := hD
      have hr76 : n1_1 = loO sz 1 0 ∧ n2_1 = loT sz 1 0 0 := hr76o
      have hv3 : hvI qu sz h2 := by rw [show sz = k by omega]; exact hv
      exact rt_wv hx hb hr hlk dX0_setOut_79 hK hS (h2, 1, n1_1, n2_1) hP hD ⟨hv3, rfl, hr76.1, hr76.2⟩
    · refine lv_aload_n hx hb dX0_setOut_30 rfl (lv_at hl 0 rfl) ?_
      refine gx F hK hP rfl 4 (by decide) q38 rfl dX0_setOut_31 ?_
      refine lv_iload_n hx hb dX0_setOut_34 rfl (lv_at hl 1 rfl) ?_
      refine nv_bald (f := qu) (n := 6) hx hb hK hP 4 0 rfl rfl (by omega) (by decide) dX0_setOut_35 ?_
      have hbd2 := hqu k
      refine lv_istore_n (lv' := [(2, .int (nI (qu k))), (0, .ref (ad 0)), (1, .int (nI k))]) hx hb dX0_setOut_36 rfl hl (by decide) rfl (fun ls hl => ?_)
      refine lv_aload_n hx hb dX0_setOut_37 rfl (lv_at hl 1 rfl) ?_
      refine gx F hK hP rfl 6 (by decide) q40 rfl dX0_setOut_38 ?_
      refine lv_iload_n hx hb dX0_setOut_41 rfl (lv_at hl 0 rfl) ?_
      refine lv_aload_n hx hb dX0_setOut_42 rfl (lv_at hl 1 rfl) ?_
      refine gx F hK hP rfl 6 (by decide) q40 rfl dX0_setOut_43 ?_
      refine lv_iload_n hx hb dX0_setOut_46 rfl (lv_at hl 0 rfl) ?_
      refine nv_bald (f := h2) (n := 4) hx hb hK hP 5 0 rfl rfl (hqu k) (by decide) dX0_setOut_47 ?_
      refine lv_iconst (v := (nI 1)) hx hb dX0_setOut_48 (by decide) ?_
      refine lv_iload_n hx hb dX0_setOut_49 rfl (lv_at hl 2 rfl) ?_
      refine nv_ishl hx hb (by omega) dX0_setOut_50 ?_
      refine nv_ior hx hb dX0_setOut_51 ?_
      refine lv_i2b (v := nI ((h2 (qu k)) ||| (1 <<< k))) hx hb dX0_setOut_52 (nv_b _ (hv_lt hv (hqu k) (by omega))) ?_
      refine nv_bast (f := h2) (n := 4) (v := (h2 (qu k)) ||| (1 <<< k)) hx hb hK hP hD hS 5 0 rfl rfl (hqu k) (by decide) (hv_lt hv (hqu k) (by omega)) dX0_setOut_53 (fun H locs hP hD hS => ?_)
      have hP : va_P D vwCl (xw dB ad P sz n0 n1 n2 kn fo ln wt sy qu (upN h2 (qu k) ((h2 (qu k)) ||| (1 <<< k))) tc) H := hP
      have hD : va_D A (xw dB ad P sz n0 n1 n2 kn fo ln wt sy qu (upN h2 (qu k) ((h2 (qu k)) ||| (1 <<< k))) tc) := hD
      refine lv_iinc (v := nI (k + 1)) (lv' := [(1, .int (nI (k + 1))), (2, .int (nI (qu k))), (0, .ref (ad 0))]) hx hb dX0_setOut_54 hl (k := 2) rfl (nv_inc _) (by decide) rfl (fun ls hl => ?_)
      refine lv_goto (tgt := 22) hx hb dX0_setOut_57 (by decide) ?_
      exact ih22 (k + 1) (upN h2 (qu k) ((h2 (qu k)) ||| (1 <<< k))) _ _ _ (by first | omega | (dsimp only; omega)) ⟨hP, hD, hS, lv_sub hl [2, 0] rfl, (by omega), (hvI_s hv (hqu k))⟩
  · refine lv_aload_n hx hb dX0_setOut_7 rfl (lv_at hl 0 rfl) ?_
    refine gx F hK hP rfl 6 (by decide) q40 rfl dX0_setOut_8 ?_
    refine lv_iload_n hx hb dX0_setOut_11 rfl (lv_at hl 1 rfl) ?_
    refine lv_iconst (v := (nI 0)) hx hb dX0_setOut_12 (by decide) ?_
    refine nv_bast (f := h1) (n := 4) (v := 0) hx hb hK hP hD hS 5 0 rfl rfl (by omega) (by decide) (by omega) dX0_setOut_13 (fun H locs hP hD hS => ?_)
    have hP : va_P D vwCl (xw dB ad P sz n0 n1 n2 kn fo ln wt sy qu (upN h1 i 0) tc) H := hP
    have hD : va_D A (xw dB ad P sz n0 n1 n2 kn fo ln wt sy qu (upN h1 i 0) tc) := hD
    refine lv_iinc (v := nI (i + 1)) (lv' := [(1, .int (nI (i + 1))), (0, .ref (ad 0))]) hx hb dX0_setOut_14 hl (k := 1) rfl (nv_inc _) (by decide) rfl (fun ls hl => ?_)
    refine lv_goto (tgt := 2) hx hb dX0_setOut_17 (by decide) ?_
    exact ih2 (i + 1) (upN h1 i 0) _ _ _ (by first | omega | (dsimp only; omega)) ⟨hP, hD, hS, lv_sub hl [1, 0] rfl, (by omega), (upz hz)⟩
set_option maxHeartbeats 4000000 in
/-- advance(x) -/
theorem metX0_advance (l : Launch) (D : va_G) (dB : ClassId) (ad : Nat → Nat) (P sz n0 n1 n2 kn fo : Nat) (ln wt sy qu ha tc : Nat → Nat) (x : Nat) (hs6 : sz ≤ 6) (hx4 : x < 4) (hsz : Nat) : Met l yX0_advance (ws_ yX0_advance cX0_advance 5 none) (rmN 2 43) (PW D [(dB, .byte)] (xw dB ad P sz n0 n1 n2 kn fo ln wt sy qu ha tc) [.ref (ad 0), .int (nI x)] hsz) (QV D [(dB, .byte)] (fun (u : Nat × Nat × Nat) => u.1 = adN (ha x) n0 ∧ u.2.1 = loO sz (adN (ha x) n0) (adO sz (ha x) n0 n1) ∧ u.2.2 = loT sz (adN (ha x) n0) (adO sz (ha x) n0 n1) (adT sz (ha x) n0 n1 n2)) (fun u : Nat × Nat × Nat => (xw dB ad P sz u.1 u.2.1 u.2.2 kn fo ln wt sy qu ha tc)) (va_A (xw dB ad P sz n0 n1 n2 kn fo ln wt sy qu ha tc) hsz)) 0 0 (va_A (xw dB ad P sz n0 n1 n2 kn fo ln wt sy qu ha tc) hsz) := by
  refine en_wv (by decide) (Nat.le_of_ble_eq_true rfl) ?_
  intro p e s m below meth c F hr hlk A hA hK hP hD hS ls hl
  have hx := F.1
  have hb := F.2.1
  have F : CallFix p m c cX0_advance 5 s [.ref (ad 0), .int (nI x)].toArray lw_all RX0 := F
  have hl : lv_has ls 5 [(0, .ref (ad 0)), (1, .int (nI x))] := hl
  refine lv_aload_n hx hb dX0_advance_0 rfl (lv_at hl 0 rfl) ?_
  refine gx F hK hP rfl 6 (by decide) q40 rfl dX0_advance_1 ?_
  refine lv_iload_n hx hb dX0_advance_4 rfl (lv_at hl 1 rfl) ?_
  refine nv_bald (f := ha) (n := 4) hx hb hK hP 5 0 rfl rfl (by omega) (by decide) dX0_advance_5 ?_
  refine lv_istore_n (lv' := [(2, .int (nI (ha x))), (0, .ref (ad 0)), (1, .int (nI x))]) hx hb dX0_advance_6 rfl hl (by decide) rfl (fun ls hl => ?_)
  refine lv_aload_n hx hb dX0_advance_7 rfl (lv_at hl 1 rfl) ?_
  refine gx F hK hP rfl 9 (by decide) q43 rfl dX0_advance_8 ?_
  refine lv_iload_n hx hb dX0_advance_11 rfl (lv_at hl 0 rfl) ?_
  refine nv_iand hx hb dX0_advance_12 ?_
  refine lv_iconst (v := (nI 1)) hx hb dX0_advance_13 (by decide) ?_
  refine nv_ishl hx hb (by omega) dX0_advance_14 ?_
  refine lv_aload_n hx hb dX0_advance_15 rfl (lv_at hl 1 rfl) ?_
  refine lv_aload_n hx hb dX0_advance_16 rfl (lv_at hl 1 rfl) ?_
  refine gx F hK hP rfl 8 (by decide) q42 rfl dX0_advance_17 ?_
  refine lv_iconst (v := (nI 0)) hx hb dX0_advance_20 (by decide) ?_
  refine nc_ro (n := 2) (q0 := 0) (ci := 0) F (metX0_movable l D dB ad P sz n0 n1 n2 kn fo ln wt sy qu ha tc n1 false hs6) (lw_V q126 q128 qs6 q24 q129) ⟨rfl, rfl⟩ (by decide +kernel) ⟨by decide, by decide⟩ hK hP rfl rfl rfl rfl hl rfl (Nat.le_of_ble_eq_true rfl) dX0_advance_21 ⟨by decide, by decide⟩ (fun r21 hr21 => ?_)
  have hr21 : r21 = (nI (mvB sz n1 false)) := hr21
  subst hr21
  refine lv_iconst (v := (nI 1)) hx hb dX0_advance_24 (by decide) ?_
  refine nv_ishl hx hb (by omega) dX0_advance_25 ?_
  refine nv_ior hx hb dX0_advance_26 ?_
  refine lv_aload_n hx hb dX0_advance_27 rfl (lv_at hl 1 rfl) ?_
  refine gx F hK hP rfl 8 (by decide) q42 rfl dX0_advance_28 ?_
  refine lv_bipush (v := (nI 4294967294)) hx hb dX0_advance_31 (by decide) ?_
  refine nv_iand hx hb dX0_advance_33 ?_
  refine nv_ior hx hb dX0_advance_34 ?_
  refine lv_istore_n (lv' := [(3, .int (nI ((((n2 &&& (ha x)) <<< 1) ||| ((mvB sz n1 false) <<< 1)) ||| (n1 &&& 4294967294)))), (2, .int (nI (ha x))), (0, .ref (ad 0)), (1, .int (nI x))]) hx hb dX0_advance_35 rfl hl (by decide) rfl (fun ls hl => ?_)
  refine lv_iload_n hx hb dX0_advance_36 rfl (lv_at hl 0 rfl) ?_
  refine lv_aload_n hx hb dX0_advance_37 rfl (lv_at hl 2 rfl) ?_
  refine lv_aload_n hx hb dX0_advance_38 rfl (lv_at hl 2 rfl) ?_
  refine gx F hK hP rfl 7 (by decide) q41 rfl dX0_advance_39 ?_
  refine lv_iconst (v := (nI 1)) hx hb dX0_advance_42 (by decide) ?_
  refine nc_ro (n := 2) (q0 := 0) (ci := 0) F (metX0_movable l D dB ad P sz n0 n1 n2 kn fo ln wt sy qu ha tc n0 true hs6) (lw_V q126 q128 qs6 q24 q129) ⟨rfl, rfl⟩ (by decide +kernel) ⟨by decide, by decide⟩ hK hP rfl rfl rfl rfl hl rfl (Nat.le_of_ble_eq_true rfl) dX0_advance_43 ⟨by decide, by decide⟩ (fun r43 hr43 => ?_)
  have hr43 : r43 = (nI (mvB sz n0 true)) := hr43
  subst hr43
  refine lv_iconst (v := (nI 1)) hx hb dX0_advance_46 (by decide) ?_
  refine nv_ishl hx hb (by omega) dX0_advance_47 ?_
  refine lv_aload_n hx hb dX0_advance_48 rfl (lv_at hl 2 rfl) ?_
  refine gx F hK hP rfl 7 (by decide) q41 rfl dX0_advance_49 ?_
  refine lv_iconst (v := (nI 1)) hx hb dX0_advance_52 (by decide) ?_
  refine nv_iand hx hb dX0_advance_53 ?_
  refine nv_ior hx hb dX0_advance_54 ?_
  refine nv_ior hx hb dX0_advance_55 ?_
  refine lv_istore_n (lv' := [(3, .int (nI (((((n2 &&& (ha x)) <<< 1) ||| ((mvB sz n1 false) <<< 1)) ||| (n1 &&& 4294967294)) ||| (((mvB sz n0 true) <<< 1) ||| (n0 &&& 1))))), (2, .int (nI (ha x))), (0, .ref (ad 0)), (1, .int (nI x))]) hx hb dX0_advance_56 rfl hl (by decide) rfl (fun ls hl => ?_)
  refine lv_aload_n hx hb dX0_advance_57 rfl (lv_at hl 2 rfl) ?_
  refine gx F hK hP rfl 8 (by decide) q42 rfl dX0_advance_58 ?_
  refine lv_iload_n hx hb dX0_advance_61 rfl (lv_at hl 1 rfl) ?_
  refine nv_iand hx hb dX0_advance_62 ?_
  refine lv_iconst (v := (nI 1)) hx hb dX0_advance_63 (by decide) ?_
  refine nv_ishl hx hb (by omega) dX0_advance_64 ?_
  refine lv_aload_n hx hb dX0_advance_65 rfl (lv_at hl 2 rfl) ?_
  refine lv_aload_n hx hb dX0_advance_66 rfl (lv_at hl 2 rfl) ?_
  refine gx F hK hP rfl 7 (by decide) q41 rfl dX0_advance_67 ?_
  refine lv_iconst (v := (nI 0)) hx hb dX0_advance_70 (by decide) ?_
  refine nc_ro (n := 2) (q0 := 0) (ci := 0) F (metX0_movable l D dB ad P sz n0 n1 n2 kn fo ln wt sy qu ha tc n0 false hs6) (lw_V q126 q128 qs6 q24 q129) ⟨rfl, rfl⟩ (by decide +kernel) ⟨by decide, by decide⟩ hK hP rfl rfl rfl rfl hl rfl (Nat.le_of_ble_eq_true rfl) dX0_advance_71 ⟨by decide, by decide⟩ (fun r71 hr71 => ?_)
  have hr71 : r71 = (nI (mvB sz n0 false)) := hr71
  subst hr71
  refine lv_iconst (v := (nI 1)) hx hb dX0_advance_74 (by decide) ?_
  refine nv_ishl hx hb (by omega) dX0_advance_75 ?_
  refine nv_ior hx hb dX0_advance_76 ?_
  refine lv_aload_n hx hb dX0_advance_77 rfl (lv_at hl 2 rfl) ?_
  refine gx F hK hP rfl 7 (by decide) q41 rfl dX0_advance_78 ?_
  refine lv_bipush (v := (nI 4294967294)) hx hb dX0_advance_81 (by decide) ?_
  refine nv_iand hx hb dX0_advance_83 ?_
  refine nv_ior hx hb dX0_advance_84 ?_
  refine lv_istore (lv' := [(4, .int (nI ((((n1 &&& (ha x)) <<< 1) ||| ((mvB sz n0 false) <<< 1)) ||| (n0 &&& 4294967294)))), (3, .int (nI (((((n2 &&& (ha x)) <<< 1) ||| ((mvB sz n1 false) <<< 1)) ||| (n1 &&& 4294967294)) ||| (((mvB sz n0 true) <<< 1) ||| (n0 &&& 1))))), (2, .int (nI (ha x))), (0, .ref (ad 0)), (1, .int (nI x))]) hx hb dX0_advance_85 hl (by decide) rfl (fun ls hl => ?_)
  refine lv_aload_n hx hb dX0_advance_87 rfl (lv_at hl 3 rfl) ?_
  refine lv_aload_n hx hb dX0_advance_88 rfl (lv_at hl 3 rfl) ?_
  refine gx F hK hP rfl 7 (by decide) q41 rfl dX0_advance_89 ?_
  refine lv_iload_n hx hb dX0_advance_92 rfl (lv_at hl 2 rfl) ?_
  refine nv_iand hx hb dX0_advance_93 ?_
  refine lv_iconst (v := (nI 1)) hx hb dX0_advance_94 (by decide) ?_
  refine nv_ishl hx hb (by omega) dX0_advance_95 ?_
  refine px (ty := .int) F hK hP hD hS rfl 7 (by decide) q41 rfl (by decide +kernel) rfl rfl (Nat.le_of_ble_eq_true rfl) dX0_advance_96 (fun H locs hP hD hS => ?_)
  have hP : va_P D vwCl (xw dB ad P sz ((n0 &&& (ha x)) <<< 1) n1 n2 kn fo ln wt sy qu ha tc) H := hP
  have hD : va_D A (xw dB ad P sz ((n0 &&& (ha x)) <<< 1) n1 n2 kn fo ln wt sy qu ha tc) := hD
  refine lv_aload_n hx hb dX0_advance_99 rfl (lv_at hl 3 rfl) ?_
  refine lv_iload hx hb dX0_advance_100 (lv_at hl 0 rfl) ?_
  refine px (ty := .int) F hK hP hD hS rfl 8 (by decide) q42 rfl (by decide +kernel) rfl rfl (Nat.le_of_ble_eq_true rfl) dX0_advance_102 (fun H locs hP hD hS => ?_)
  have hP : va_P D vwCl (xw dB ad P sz ((n0 &&& (ha x)) <<< 1) ((((n1 &&& (ha x)) <<< 1) ||| ((mvB sz n0 false) <<< 1)) ||| (n0 &&& 4294967294)) n2 kn fo ln wt sy qu ha tc) H := hP
  have hD : va_D A (xw dB ad P sz ((n0 &&& (ha x)) <<< 1) ((((n1 &&& (ha x)) <<< 1) ||| ((mvB sz n0 false) <<< 1)) ||| (n0 &&& 4294967294)) n2 kn fo ln wt sy qu ha tc) := hD
  refine lv_aload_n hx hb dX0_advance_105 rfl (lv_at hl 3 rfl) ?_
  refine lv_iload_n hx hb dX0_advance_106 rfl (lv_at hl 1 rfl) ?_
  refine px (ty := .int) F hK hP hD hS rfl 9 (by decide) q43 rfl (by decide +kernel) rfl rfl (Nat.le_of_ble_eq_true rfl) dX0_advance_107 (fun H locs hP hD hS => ?_)
  have hP : va_P D vwCl (xw dB ad P sz ((n0 &&& (ha x)) <<< 1) ((((n1 &&& (ha x)) <<< 1) ||| ((mvB sz n0 false) <<< 1)) ||| (n0 &&& 4294967294)) (((((n2 &&& (ha x)) <<< 1) ||| ((mvB sz n1 false) <<< 1)) ||| (n1 &&& 4294967294)) ||| (((mvB sz n0 true) <<< 1) ||| (n0 &&& 1))) kn fo ln wt sy qu ha tc) H := hP
  have hD : va_D A (xw dB ad P sz ((n0 &&& (ha x)) <<< 1) ((((n1 &&& (ha x)) <<< 1) ||| ((mvB sz n0 false) <<< 1)) ||| (n0 &&& 4294967294)) (((((n2 &&& (ha x)) <<< 1) ||| ((mvB sz n1 false) <<< 1)) ||| (n1 &&& 4294967294)) ||| (((mvB sz n0 true) <<< 1) ||| (n0 &&& 1))) kn fo ln wt sy qu ha tc) := hD
  refine lv_aload_n hx hb dX0_advance_110 rfl (lv_at hl 3 rfl) ?_
  refine nc_wv (n := 0) (q0 := 0) (ci := 0) (wr := []) F (metX0_leaveOut l D dB ad P sz ((n0 &&& (ha x)) <<< 1) ((((n1 &&& (ha x)) <<< 1) ||| ((mvB sz n0 false) <<< 1)) ||| (n0 &&& 4294967294)) (((((n2 &&& (ha x)) <<< 1) ||| ((mvB sz n1 false) <<< 1)) ||| (n1 &&& 4294967294)) ||| (((mvB sz n0 true) <<< 1) ||| (n0 &&& 1))) kn fo ln wt sy qu ha tc  hs6 _) (lw_V q122 q124 qs5 q24 q125) ⟨rfl, rfl⟩ (by decide +kernel) ⟨by decide, by decide⟩ hK hP hD hS hA [0, 1, 2, 3, 4, 5, 6] [] rfl rfl rfl rfl rfl (by decide) rfl rfl rfl rfl hl rfl (Nat.le_of_ble_eq_true rfl) dX0_advance_111 ⟨by decide, by decide⟩ (fun u H locs hr111o hP hD hS => ?_)
  obtain ⟨n1_1, n2_1⟩ := u
  have hP : va_P D vwCl (xw dB ad P sz ((n0 &&& (ha x)) <<< 1) n1_1 n2_1 kn fo ln wt sy qu ha tc) H := hP
  have hD : va_D A (xw dB ad P sz ((n0 &&& (ha x)) <<< 1) n1_1 n2_1 kn fo ln wt sy qu ha tc) := hD
  have hr111 : n1_1 = loO sz ((n0 &&& (ha x)) <<< 1) ((((n1 &&& (ha x)) <<< 1) ||| ((mvB sz n0 false) <<< 1)) ||| (n0 &&& 4294967294)) ∧ n2_1 = loT sz ((n0 &&& (ha x)) <<< 1) ((((n1 &&& (ha x)) <<< 1) ||| ((mvB sz n0 false) <<< 1)) ||| (n0 &&& 4294967294)) (((((n2 &&& (ha x)) <<< 1) ||| ((mvB sz n1 false) <<< 1)) ||| (n1 &&& 4294967294)) ||| (((mvB sz n0 true) <<< 1) ||| (n0 &&& 1))) := hr111o
  exact rt_wv hx hb hr hlk dX0_advance_114 hK hS ((n0 &&& (ha x)) <<< 1, n1_1, n2_1) hP hD ⟨rfl, hr111.1, hr111.2⟩
set_option maxHeartbeats 4000000 in
/-- typosOf(w) -/
theorem metX0_typosOf (l : Launch) (D : va_G) (dB : ClassId) (ad : Nat → Nat) (P sz n0 n1 n2 kn fo : Nat) (ln wt sy qu ha tc : Nat → Nat) (w : Nat) (hI : xI P sz ln wt sy qu) (hw : w < 10) (hsz : Nat) : Met l yX0_typosOf (ws_ yX0_typosOf cX0_typosOf 5 (some .int)) (rmN 3 67) (PW D [(dB, .byte)] (xw dB ad P sz n0 n1 n2 kn fo ln wt sy qu ha tc) [.ref (ad 0), .int (nI w)] hsz) (QI D [(dB, .byte)] (fun (r : Int32) (u : Nat × Nat × Nat × (Nat → Nat)) => r = (nI (min (edt qu sy sz (ln w) w) 3)) ∧ True) (fun u : Nat × Nat × Nat × (Nat → Nat) => (xw dB ad P sz u.1 u.2.1 u.2.2.1 kn fo ln wt sy qu u.2.2.2 tc)) (va_A (xw dB ad P sz n0 n1 n2 kn fo ln wt sy qu ha tc) hsz)) 0 0 (va_A (xw dB ad P sz n0 n1 n2 kn fo ln wt sy qu ha tc) hsz) := by
  refine en_wi (by decide) (Nat.le_of_ble_eq_true rfl) ?_
  intro p e s m below meth c F hr hlk A hA hK hP hD hS ls hl
  have hx := F.1
  have hb := F.2.1
  have F : CallFix p m c cX0_typosOf 5 s [.ref (ad 0), .int (nI w)].toArray lw_all RX0 := F
  have hl : lv_has ls 5 [(0, .ref (ad 0)), (1, .int (nI w))] := hl
  obtain ⟨hI1, hs6, hln, hwt, hsy, hqu⟩ := id hI
  refine lv_aload_n hx hb dX0_typosOf_0 rfl (lv_at hl 0 rfl) ?_
  refine nc_wv (n := 0) (q0 := 0) (ci := 0) (wr := []) F (metX0_setOut l D dB ad P sz n0 n1 n2 kn fo ln wt sy qu ha tc  hI _) (lw_V q118 q120 qs4 q24 q121) ⟨rfl, rfl⟩ (by decide +kernel) ⟨by decide, by decide⟩ hK hP hD hS hA [0, 1, 2, 3, 4, 5, 6] [] rfl rfl rfl rfl rfl (by decide) rfl rfl rfl rfl hl rfl (Nat.le_of_ble_eq_true rfl) dX0_typosOf_1 ⟨by decide, by decide⟩ (fun u H locs hr1o hP hD hS => ?_)
  obtain ⟨ha_1, n0_1, n1_1, n2_1⟩ := u
  have hP : va_P D vwCl (xw dB ad P sz n0_1 n1_1 n2_1 kn fo ln wt sy qu ha_1 tc) H := hP
  have hD : va_D A (xw dB ad P sz n0_1 n1_1 n2_1 kn fo ln wt sy qu ha_1 tc) := hD
  have hr1 : hvI qu sz ha_1 ∧ n0_1 = 1 ∧ n1_1 = loO sz 1 0 ∧ n2_1 = loT sz 1 0 0 := hr1o
  obtain ⟨hv1, e0, e1, e2⟩ := hr1
  have hs0 : sInv qu (fun k => sy (6 * w + k)) sz 0 n0_1 n1_1 n2_1 := by rw [e0, e1, e2]; exact sInv_0 _ _ hs6
  have hrc := rcF_le sz n0_1 n1_1 n2_1
  refine lv_aload_n hx hb dX0_typosOf_4 rfl (lv_at hl 0 rfl) ?_
  refine nc_ro (n := 0) (q0 := 0) (ci := 0) F (metX0_reached l D dB ad P sz n0_1 n1_1 n2_1 kn fo ln wt sy qu ha_1 tc  hs6) (lw_V q130 q132 qs7 q24 q133) ⟨rfl, rfl⟩ (by decide +kernel) ⟨by decide, by decide⟩ hK hP rfl rfl rfl rfl hl rfl (Nat.le_of_ble_eq_true rfl) dX0_typosOf_5 ⟨by decide, by decide⟩ (fun r5 hr5 => ?_)
  have hr5 : r5 = (nI (rcF sz n0_1 n1_1 n2_1)) := hr5
  subst hr5
  refine lv_istore_n (lv' := [(2, .int (nI (rcF sz n0_1 n1_1 n2_1))), (0, .ref (ad 0)), (1, .int (nI w))]) hx hb dX0_typosOf_8 rfl hl (by decide) rfl (fun ls hl => ?_)
  refine lv_iconst (v := (nI 0)) hx hb dX0_typosOf_9 (by decide) ?_
  refine lv_istore_n (lv' := [(3, .int (nI 0)), (2, .int (nI (rcF sz n0_1 n1_1 n2_1))), (0, .ref (ad 0)), (1, .int (nI w))]) hx hb dX0_typosOf_10 rfl hl (by decide) rfl (fun ls hl => ?_)
  refine lp_w5 (I := fun (k : Nat) (x : Nat) (a0 : Nat) (a1 : Nat) (a2 : Nat) H locs ls => va_P D vwCl (xw dB ad P sz a0 a1 a2 kn fo ln wt sy qu ha_1 tc) H ∧ va_D A (xw dB ad P sz a0 a1 a2 kn fo ln wt sy qu ha_1 tc) ∧ va_S A s.heap H locs ∧ lv_has ls 5 [(0, .ref (ad 0)), (1, .int (nI w)), (2, .int (nI x)), (3, .int (nI k))] ∧ (k ≤ ln w) ∧ (x = min (eds qu (fun k => sy (6 * w + k)) sz k) 3) ∧ (sInv qu (fun k => sy (6 * w + k)) sz k a0 a1 a2)) (μ := fun (k : Nat) (x : Nat) (a0 : Nat) (a1 : Nat) (a2 : Nat) => ln w - k) ?_ 0 (rcF sz n0_1 n1_1 n2_1) n0_1 n1_1 n2_1 _ _ _ ⟨hP, hD, hS, lv_sub hl [2, 3, 1, 0] rfl, (Nat.zero_le _), (ts_0 hs0), hs0⟩
  intro k x a0 a1 a2 H locs ls hI0 ih11
  obtain ⟨hP, hD, hS, hl, hk, hxe, hin⟩ := hI0
  have hl : lv_has ls 5 [(0, .ref (ad 0)), (1, .int (nI w)), (2, .int (nI x)), (3, .int (nI k))] := hl
  have hP : va_P D vwCl (xw dB ad P sz a0 a1 a2 kn fo ln wt sy qu ha_1 tc) H := hP
  have hD : va_D A (xw dB ad P sz a0 a1 a2 kn fo ln wt sy qu ha_1 tc) := hD
  have hlnw := hln w
  refine lv_iload_n hx hb dX0_typosOf_11 rfl (lv_at hl 3 rfl) ?_
  refine lv_aload_n hx hb dX0_typosOf_12 rfl (lv_at hl 0 rfl) ?_
  refine gx F hK hP rfl 1 (by decide) q35 rfl dX0_typosOf_13 ?_
  refine lv_iload_n hx hb dX0_typosOf_16 rfl (lv_at hl 1 rfl) ?_
  refine nv_bald (f := ln) (n := 10) hx hb hK hP 1 0 rfl rfl (by omega) (by decide) dX0_typosOf_17 ?_
  have hbd2 := hln w
  refine nv_cge (tgt := 61) hx hb dX0_typosOf_18 (by decide) (by omega) (by omega) (fun c18 => ?_) (fun c18 => ?_)
  · refine lv_iload_n hx hb dX0_typosOf_61 rfl (lv_at hl 2 rfl) ?_
    have hke : k = ln w := by omega
    exact rt_wi hx hb hr hlk dX0_typosOf_62 hK hS (a0, a1, a2, ha_1) hP hD ⟨congrArg nI (by rw [hxe, hke]; rfl), trivial⟩
  · refine lv_aload_n hx hb dX0_typosOf_21 rfl (lv_at hl 0 rfl) ?_
    refine lv_aload_n hx hb dX0_typosOf_22 rfl (lv_at hl 0 rfl) ?_
    refine gx F hK hP rfl 3 (by decide) q37 rfl dX0_typosOf_23 ?_
    refine lv_iload_n hx hb dX0_typosOf_26 rfl (lv_at hl 1 rfl) ?_
    refine lv_bipush (v := (nI 6)) hx hb dX0_typosOf_27 (by decide) ?_
    refine nv_imulc hx hb dX0_typosOf_29 ?_
    refine lv_iload_n hx hb dX0_typosOf_30 rfl (lv_at hl 3 rfl) ?_
    refine nv_iadd hx hb dX0_typosOf_31 ?_
    refine nv_bald (f := sy) (n := 60) hx hb hK hP 3 0 rfl rfl (by omega) (by decide) dX0_typosOf_32 ?_
    have hbd3 := hsy ((6 * w) + k)
    refine nc_wv (n := 1) (q0 := 0) (ci := 0) (wr := []) F (metX0_advance l D dB ad P sz a0 a1 a2 kn fo ln wt sy qu ha_1 tc (sy ((6 * w) + k)) hs6 (hsy _) _) (lw_V q134 q136 qs8 q24 q137) ⟨rfl, rfl⟩ (by decide +kernel) ⟨by decide, by decide⟩ hK hP hD hS hA [0, 1, 2, 3, 4, 5, 6] [] rfl rfl rfl rfl rfl (by decide) rfl rfl rfl rfl hl rfl (Nat.le_of_ble_eq_true rfl) dX0_typosOf_33 ⟨by decide, by decide⟩ (fun u H locs hr33o hP hD hS => ?_)
    obtain ⟨n0_4, n1_4, n2_4⟩ := u
    have hP : va_P D vwCl (xw dB ad P sz n0_4 n1_4 n2_4 kn fo ln wt sy qu ha_1 tc) H := hP
    have hD : va_D A (xw dB ad P sz n0_4 n1_4 n2_4 kn fo ln wt sy qu ha_1 tc) := hD
    have hr33 : n0_4 = adN (ha_1 ((sy ((6 * w) + k)))) a0 ∧ n1_4 = loO sz (adN (ha_1 ((sy ((6 * w) + k)))) a0) (adO sz (ha_1 ((sy ((6 * w) + k)))) a0 a1) ∧ n2_4 = loT sz (adN (ha_1 ((sy ((6 * w) + k)))) a0) (adO sz (ha_1 ((sy ((6 * w) + k)))) a0 a1) (adT sz (ha_1 ((sy ((6 * w) + k)))) a0 a1 a2) := hr33o
    obtain ⟨f0, f1, f2⟩ := hr33
    have hs1 : sInv qu (fun k => sy (6 * w + k)) sz (k + 1) n0_4 n1_4 n2_4 := by rw [f0, f1, f2]; exact sInv_s hs6 (fun i => (hv1 _ (hsy _)).2 i) hin
    have hrc1 := rcF_le sz n0_4 n1_4 n2_4
    refine lv_aload_n hx hb dX0_typosOf_36 rfl (lv_at hl 0 rfl) ?_
    refine nc_ro (n := 0) (q0 := 0) (ci := 0) F (metX0_reached l D dB ad P sz n0_4 n1_4 n2_4 kn fo ln wt sy qu ha_1 tc  hs6) (lw_V q130 q132 qs7 q24 q133) ⟨rfl, rfl⟩ (by decide +kernel) ⟨by decide, by decide⟩ hK hP rfl rfl rfl rfl hl rfl (Nat.le_of_ble_eq_true rfl) dX0_typosOf_37 ⟨by decide, by decide⟩ (fun r37 hr37 => ?_)
    have hr37 : r37 = (nI (rcF sz n0_4 n1_4 n2_4)) := hr37
    subst hr37
    refine lv_istore (lv' := [(4, .int (nI (rcF sz n0_4 n1_4 n2_4))), (0, .ref (ad 0)), (1, .int (nI w)), (2, .int (nI x)), (3, .int (nI k))]) hx hb dX0_typosOf_40 hl (by decide) rfl (fun ls hl => ?_)
    refine lv_iload hx hb dX0_typosOf_42 (lv_at hl 0 rfl) ?_
    refine lv_iload_n hx hb dX0_typosOf_44 rfl (lv_at hl 3 rfl) ?_
    refine nv_cge (tgt := 53) hx hb dX0_typosOf_45 (by decide) (by omega) (by omega) (fun c45 => ?_) (fun c45 => ?_)
    · refine lv_iload_n hx hb dX0_typosOf_53 rfl (lv_at hl 3 rfl) ?_
      refine lv_istore_n (lv' := [(2, .int (nI x)), (4, .int (nI (rcF sz n0_4 n1_4 n2_4))), (0, .ref (ad 0)), (1, .int (nI w)), (3, .int (nI k))]) hx hb dX0_typosOf_54 rfl hl (by decide) rfl (fun ls hl => ?_)
      refine lv_iinc (v := nI (k + 1)) (lv' := [(3, .int (nI (k + 1))), (2, .int (nI x)), (4, .int (nI (rcF sz n0_4 n1_4 n2_4))), (0, .ref (ad 0)), (1, .int (nI w))]) hx hb dX0_typosOf_55 hl (k := 4) rfl (nv_inc _) (by decide) rfl (fun ls hl => ?_)
      refine lv_goto (tgt := 11) hx hb dX0_typosOf_58 (by decide) ?_
      exact ih11 (k + 1) x n0_4 n1_4 n2_4 _ _ _ (by first | omega | (dsimp only; omega)) ⟨hP, hD, hS, lv_sub hl [3, 4, 1, 0] rfl, (by omega), (by rw [← ts_s hxe hs1]; omega), hs1⟩
    · refine lv_iload hx hb dX0_typosOf_48 (lv_at hl 0 rfl) ?_
      refine lv_goto (tgt := 54) hx hb dX0_typosOf_50 (by decide) ?_
      refine lv_istore_n (lv' := [(2, .int (nI (rcF sz n0_4 n1_4 n2_4))), (4, .int (nI (rcF sz n0_4 n1_4 n2_4))), (0, .ref (ad 0)), (1, .int (nI w)), (3, .int (nI k))]) hx hb dX0_typosOf_54 rfl hl (by decide) rfl (fun ls hl => ?_)
      refine lv_iinc (v := nI (k + 1)) (lv' := [(3, .int (nI (k + 1))), (2, .int (nI (rcF sz n0_4 n1_4 n2_4))), (4, .int (nI (rcF sz n0_4 n1_4 n2_4))), (0, .ref (ad 0)), (1, .int (nI w))]) hx hb dX0_typosOf_55 hl (k := 4) rfl (nv_inc _) (by decide) rfl (fun ls hl => ?_)
      refine lv_goto (tgt := 11) hx hb dX0_typosOf_58 (by decide) ?_
      exact ih11 (k + 1) (rcF sz n0_4 n1_4 n2_4) n0_4 n1_4 n2_4 _ _ _ (by first | omega | (dsimp only; omega)) ⟨hP, hD, hS, lv_sub hl [3, 4, 1, 0] rfl, (by omega), (by rw [← ts_s hxe hs1]; omega), hs1⟩
set_option maxHeartbeats 4000000 in
/-- learn() -/
theorem metX0_learn (l : Launch) (D : va_G) (dB : ClassId) (ad : Nat → Nat) (P sz n0 n1 n2 kn fo : Nat) (ln wt sy qu ha tc : Nat → Nat)  (hI : xI P sz ln wt sy qu) (hS0 : xS P sz ln sy qu tc kn fo) (hsz : Nat) : Met l yX0_learn (ws_ yX0_learn cX0_learn 2 none) (rmN 4 91) (PW D [(dB, .byte)] (xw dB ad P sz n0 n1 n2 kn fo ln wt sy qu ha tc) [.ref (ad 0)] hsz) (QV D [(dB, .byte)] (fun (u : Nat × Nat × Nat × Nat × Nat × (Nat → Nat) × (Nat → Nat)) => u.2.2.2.1 = 1 ∧ (∀ j, u.2.2.2.2.2.2 j ≤ 3) ∧ cok P sz ln sy qu u.2.2.2.2.2.2 u.2.2.2.2.1) (fun u : Nat × Nat × Nat × Nat × Nat × (Nat → Nat) × (Nat → Nat) => (xw dB ad P sz u.1 u.2.1 u.2.2.1 u.2.2.2.1 u.2.2.2.2.1 ln wt sy qu u.2.2.2.2.2.1 u.2.2.2.2.2.2)) (va_A (xw dB ad P sz n0 n1 n2 kn fo ln wt sy qu ha tc) hsz)) 0 0 (va_A (xw dB ad P sz n0 n1 n2 kn fo ln wt sy qu ha tc) hsz) := by
  refine en_wv (by decide) (Nat.le_of_ble_eq_true rfl) ?_
  intro p e s m below meth c F hr hlk A hA hK hP hD hS ls hl
  have hx := F.1
  have hb := F.2.1
  have F : CallFix p m c cX0_learn 2 s [.ref (ad 0)].toArray lw_all RX0 := F
  have hl : lv_has ls 2 [(0, .ref (ad 0))] := hl
  obtain ⟨hI1, hs6, hln, hwt, hsy, hqu⟩ := id hI
  obtain ⟨hk1, htc, hco⟩ := id hS0
  have hfg := fg_le sz
  refine lv_aload_n hx hb dX0_learn_0 rfl (lv_at hl 0 rfl) ?_
  refine gx F hK hP rfl 10 (by decide) q44 rfl dX0_learn_1 ?_
  refine nv_zeq (tgt := 8) hx hb dX0_learn_4 (by decide) (by omega) (fun c4 => ?_) (fun c4 => ?_)
  · refine lv_aload_n hx hb dX0_learn_8 rfl (lv_at hl 0 rfl) ?_
    refine lv_iconst (v := (nI 1)) hx hb dX0_learn_9 (by decide) ?_
    refine px (ty := .boolean) F hK hP hD hS rfl 10 (by decide) q44 rfl (by decide +kernel) rfl rfl (Nat.le_of_ble_eq_true rfl) dX0_learn_10 (fun H locs hP hD hS => ?_)
    have hP : va_P D vwCl (xw dB ad P sz n0 n1 n2 1 fo ln wt sy qu ha tc) H := hP
    have hD : va_D A (xw dB ad P sz n0 n1 n2 1 fo ln wt sy qu ha tc) := hD
    refine lv_aload_n hx hb dX0_learn_13 rfl (lv_at hl 0 rfl) ?_
    refine lv_iconst (v := (nI 0)) hx hb dX0_learn_14 (by decide) ?_
    refine px (ty := .int) F hK hP hD hS rfl 12 (by decide) q46 rfl (by decide +kernel) rfl rfl (Nat.le_of_ble_eq_true rfl) dX0_learn_15 (fun H locs hP hD hS => ?_)
    have hP : va_P D vwCl (xw dB ad P sz n0 n1 n2 1 0 ln wt sy qu ha tc) H := hP
    have hD : va_D A (xw dB ad P sz n0 n1 n2 1 0 ln wt sy qu ha tc) := hD
    refine lv_iconst (v := (nI 0)) hx hb dX0_learn_18 (by decide) ?_
    refine lv_istore_n (lv' := [(1, .int (nI 0)), (0, .ref (ad 0))]) hx hb dX0_learn_19 rfl hl (by decide) rfl (fun ls hl => ?_)
    refine lp_w7 (I := fun (i : Nat) (f : Nat) (a0 : Nat) (a1 : Nat) (a2 : Nat) (h : Nat → Nat) (t : Nat → Nat) H locs ls => va_P D vwCl (xw dB ad P sz a0 a1 a2 1 f ln wt sy qu h t) H ∧ va_D A (xw dB ad P sz a0 a1 a2 1 f ln wt sy qu h t) ∧ va_S A s.heap H locs ∧ lv_has ls 2 [(0, .ref (ad 0)), (1, .int (nI i))] ∧ (i ≤ 10) ∧ (f = setOf (fdX P sz ln sy qu) i) ∧ (∀ j, t j ≤ 3) ∧ (tcOk P sz ln sy qu t i)) (μ := fun (i : Nat) (f : Nat) (a0 : Nat) (a1 : Nat) (a2 : Nat) (h : Nat → Nat) (t : Nat → Nat) => 10 - i) ?_ 0 0 n0 n1 n2 ha tc _ _ _ ⟨hP, hD, hS, lv_sub hl [1, 0] rfl, (Nat.zero_le _), rfl, htc, (fun v hv => absurd hv (Nat.not_lt_zero v))⟩
    intro i f a0 a1 a2 h t H locs ls hI0 ih20
    obtain ⟨hP, hD, hS, hl, hi, hf, ht, hok⟩ := hI0
    have hl : lv_has ls 2 [(0, .ref (ad 0)), (1, .int (nI i))] := hl
    have hP : va_P D vwCl (xw dB ad P sz a0 a1 a2 1 f ln wt sy qu h t) H := hP
    have hD : va_D A (xw dB ad P sz a0 a1 a2 1 f ln wt sy qu h t) := hD
    refine lv_iload_n hx hb dX0_learn_20 rfl (lv_at hl 1 rfl) ?_
    refine lv_bipush (v := (nI 10)) hx hb dX0_learn_21 (by decide) ?_
    refine nv_cge (tgt := 81) hx hb dX0_learn_23 (by decide) (by omega) (by omega) (fun c23 => ?_) (fun c23 => ?_)
    · have hie : i = 10 := by omega
      exact rt_wv hx hb hr hlk dX0_learn_81 hK hS (a0, a1, a2, 1, f, h, t) hP hD ⟨rfl, ht, by rw [hf, hie], by rw [← hie]; exact hok⟩
    · refine lv_aload_n hx hb dX0_learn_26 rfl (lv_at hl 0 rfl) ?_
      refine lv_iload_n hx hb dX0_learn_27 rfl (lv_at hl 1 rfl) ?_
      refine nc_ro (n := 1) (q0 := 0) (ci := 0) F (metX0_has l D dB ad P sz a0 a1 a2 1 f ln wt sy qu h t (nI i) hI.1) (lw_V q82 q84 qs0 q24 q85) ⟨rfl, rfl⟩ (by decide +kernel) ⟨by decide, by decide⟩ hK hP rfl rfl rfl rfl hl rfl (Nat.le_of_ble_eq_true rfl) dX0_learn_28 ⟨by decide, by decide⟩ (fun r28 hr28 => ?_)
      have hr28 : r28 = (nI (Bool.toNat (hsF P ((nI i))))) := hr28
      subst hr28
      refine nv_beq (tgt := 75) hx hb dX0_learn_31 (by decide) (fun c31 => ?_) (fun c31 => ?_)
      · rw [hsF_n (by omega)] at c31
        refine lv_iinc (v := nI (i + 1)) (lv' := [(1, .int (nI (i + 1))), (0, .ref (ad 0))]) hx hb dX0_learn_75 hl (k := 1) rfl (nv_inc _) (by decide) rfl (fun ls hl => ?_)
        refine lv_goto (tgt := 20) hx hb dX0_learn_78 (by decide) ?_
        exact ih20 (i + 1) f a0 a1 a2 h t _ _ _ (by first | omega | (dsimp only; omega)) ⟨hP, hD, hS, lv_sub hl [1, 0] rfl, (by omega), (by rw [hf, setOf_f (fdX_0 c31)]), ht, (tcOk_0 hok c31)⟩
      · rw [hsF_n (by omega)] at c31
        refine lv_aload_n hx hb dX0_learn_34 rfl (lv_at hl 0 rfl) ?_
        refine gx F hK hP rfl 11 (by decide) q45 rfl dX0_learn_35 ?_
        refine lv_iload_n hx hb dX0_learn_38 rfl (lv_at hl 1 rfl) ?_
        refine lv_aload_n hx hb dX0_learn_39 rfl (lv_at hl 0 rfl) ?_
        refine lv_iload_n hx hb dX0_learn_40 rfl (lv_at hl 1 rfl) ?_
        refine nc_wi (n := 1) (q0 := 0) (ci := 0) (wr := []) F (metX0_typosOf l D dB ad P sz a0 a1 a2 1 f ln wt sy qu h t i hI (by omega) _) (lw_V q114 q116 qs3 q24 q117) ⟨rfl, rfl⟩ (by decide +kernel) ⟨by decide, by decide⟩ hK hP hD hS hA [0, 1, 2, 3, 4, 5, 6] [] rfl rfl rfl rfl rfl (by decide) rfl rfl rfl rfl hl rfl (Nat.le_of_ble_eq_true rfl) dX0_learn_41 ⟨by decide, by decide⟩ (fun r41 u H locs hr41o hP hD hS => ?_)
        obtain ⟨n0_1, n1_1, n2_1, ha_1⟩ := u
        have hP : va_P D vwCl (xw dB ad P sz n0_1 n1_1 n2_1 1 f ln wt sy qu ha_1 t) H := hP
        have hD : va_D A (xw dB ad P sz n0_1 n1_1 n2_1 1 f ln wt sy qu ha_1 t) := hD
        have hr41 : r41 = (nI (min (edt qu sy sz (ln i) i) 3)) ∧ True := hr41o
        obtain ⟨hr41e, -⟩ := hr41
        subst hr41e
        refine lv_i2b (v := nI (min (edt qu sy sz (ln i) i) 3)) hx hb dX0_learn_44 (nv_b _ (by omega)) ?_
        refine nv_bast (f := t) (n := 10) (v := min (edt qu sy sz (ln i) i) 3) hx hb hK hP hD hS 6 0 rfl rfl (by omega) (by decide) (by omega) dX0_learn_45 (fun H locs hP hD hS => ?_)
        have hP : va_P D vwCl (xw dB ad P sz n0_1 n1_1 n2_1 1 f ln wt sy qu ha_1 (upN t i (min (edt qu sy sz (ln i) i) 3))) H := hP
        have hD : va_D A (xw dB ad P sz n0_1 n1_1 n2_1 1 f ln wt sy qu ha_1 (upN t i (min (edt qu sy sz (ln i) i) 3))) := hD
        refine lv_aload_n hx hb dX0_learn_46 rfl (lv_at hl 0 rfl) ?_
        refine lv_dup hx hb dX0_learn_47 rfl ?_
        refine gx F hK hP rfl 12 (by decide) q46 rfl dX0_learn_48 ?_
        refine lv_aload_n hx hb dX0_learn_51 rfl (lv_at hl 0 rfl) ?_
        refine gx F hK hP rfl 11 (by decide) q45 rfl dX0_learn_52 ?_
        refine lv_iload_n hx hb dX0_learn_55 rfl (lv_at hl 1 rfl) ?_
        refine nv_bald (f := (upN t i (min (edt qu sy sz (ln i) i) 3))) (n := 10) hx hb hK hP 6 0 rfl rfl (by omega) (by decide) dX0_learn_56 ?_
        have hbd2 := htc i
        rw [show (upN t i (min (edt qu sy sz (ln i) i) 3)) i = min (edt qu sy sz (ln i) i) 3 from upN_s _ _ _]
        refine lv_aload_n hx hb dX0_learn_57 rfl (lv_at hl 0 rfl) ?_
        refine nc_ro (n := 0) (q0 := 0) (ci := 0) F (metX0_forgiven l D dB ad P sz n0_1 n1_1 n2_1 1 f ln wt sy qu ha_1 (upN t i (min (edt qu sy sz (ln i) i) 3))  hs6) (lw_V q138 q140 qs9 q24 q141) ⟨rfl, rfl⟩ (by decide +kernel) ⟨by decide, by decide⟩ hK hP rfl rfl rfl rfl hl rfl (Nat.le_of_ble_eq_true rfl) dX0_learn_58 ⟨by decide, by decide⟩ (fun r58 hr58 => ?_)
        have hr58 : r58 = (nI (fg sz)) := hr58
        subst hr58
        refine nv_cgt (tgt := 70) hx hb dX0_learn_61 (by decide) (by omega) (by omega) (fun c61 => ?_) (fun c61 => ?_)
        · refine lv_iconst (v := (nI 0)) hx hb dX0_learn_70 (by decide) ?_
          refine nv_ior hx hb dX0_learn_71 ?_
          refine px (ty := .int) F hK hP hD hS rfl 12 (by decide) q46 rfl (by decide +kernel) rfl rfl (Nat.le_of_ble_eq_true rfl) dX0_learn_72 (fun H locs hP hD hS => ?_)
          have hP : va_P D vwCl (xw dB ad P sz n0_1 n1_1 n2_1 1 (f ||| 0) ln wt sy qu ha_1 (upN t i (min (edt qu sy sz (ln i) i) 3))) H := hP
          have hD : va_D A (xw dB ad P sz n0_1 n1_1 n2_1 1 (f ||| 0) ln wt sy qu ha_1 (upN t i (min (edt qu sy sz (ln i) i) 3))) := hD
          refine lv_iinc (v := nI (i + 1)) (lv' := [(1, .int (nI (i + 1))), (0, .ref (ad 0))]) hx hb dX0_learn_75 hl (k := 1) rfl (nv_inc _) (by decide) rfl (fun ls hl => ?_)
          refine lv_goto (tgt := 20) hx hb dX0_learn_78 (by decide) ?_
          exact ih20 (i + 1) (f ||| 0) n0_1 n1_1 n2_1 ha_1 (upN t i (min (edt qu sy sz (ln i) i) 3)) _ _ _ (by first | omega | (dsimp only; omega)) ⟨hP, hD, hS, lv_sub hl [1, 0] rfl, (by omega), (by rw [hf, Nat.or_zero, setOf_f (fdX_f c61)]), (upN_le ht (by omega)), (tcOk_s hok)⟩
        · refine lv_iconst (v := (nI 1)) hx hb dX0_learn_64 (by decide) ?_
          refine lv_iload_n hx hb dX0_learn_65 rfl (lv_at hl 1 rfl) ?_
          refine nv_ishl hx hb (by omega) dX0_learn_66 ?_
          refine lv_goto (tgt := 71) hx hb dX0_learn_67 (by decide) ?_
          refine nv_ior hx hb dX0_learn_71 ?_
          refine px (ty := .int) F hK hP hD hS rfl 12 (by decide) q46 rfl (by decide +kernel) rfl rfl (Nat.le_of_ble_eq_true rfl) dX0_learn_72 (fun H locs hP hD hS => ?_)
          have hP : va_P D vwCl (xw dB ad P sz n0_1 n1_1 n2_1 1 (f ||| (1 <<< i)) ln wt sy qu ha_1 (upN t i (min (edt qu sy sz (ln i) i) 3))) H := hP
          have hD : va_D A (xw dB ad P sz n0_1 n1_1 n2_1 1 (f ||| (1 <<< i)) ln wt sy qu ha_1 (upN t i (min (edt qu sy sz (ln i) i) 3))) := hD
          refine lv_iinc (v := nI (i + 1)) (lv' := [(1, .int (nI (i + 1))), (0, .ref (ad 0))]) hx hb dX0_learn_75 hl (k := 1) rfl (nv_inc _) (by decide) rfl (fun ls hl => ?_)
          refine lv_goto (tgt := 20) hx hb dX0_learn_78 (by decide) ?_
          exact ih20 (i + 1) (f ||| (1 <<< i)) n0_1 n1_1 n2_1 ha_1 (upN t i (min (edt qu sy sz (ln i) i) 3)) _ _ _ (by first | omega | (dsimp only; omega)) ⟨hP, hD, hS, lv_sub hl [1, 0] rfl, (by omega), (by rw [hf, setOf_t (fdX_t c31 c61)]), (upN_le ht (by omega)), (tcOk_s hok)⟩
  · exact rt_wv hx hb hr hlk dX0_learn_7 hK hS (n0, n1, n2, kn, fo, ha, tc) hP hD ⟨show kn = 1 by omega, htc, hco (by omega)⟩
set_option maxHeartbeats 4000000 in
/-- found() -/
theorem metX0_found (l : Launch) (D : va_G) (dB : ClassId) (ad : Nat → Nat) (P sz n0 n1 n2 kn fo : Nat) (ln wt sy qu ha tc : Nat → Nat)  (hI : xI P sz ln wt sy qu) (hS0 : xS P sz ln sy qu tc kn fo) (hsz : Nat) : Met l yX0_found (ws_ yX0_found cX0_found 1 (some .int)) (rmN 5 112) (PW D [(dB, .byte)] (xw dB ad P sz n0 n1 n2 kn fo ln wt sy qu ha tc) [.ref (ad 0)] hsz) (QI D [(dB, .byte)] (fun (r : Int32) (u : Nat × Nat × Nat × Nat × Nat × (Nat → Nat) × (Nat → Nat)) => r = (nI (setOf (fdX P sz ln sy qu) 10)) ∧ xS P sz ln sy qu u.2.2.2.2.2.2 u.2.2.2.1 u.2.2.2.2.1) (fun u : Nat × Nat × Nat × Nat × Nat × (Nat → Nat) × (Nat → Nat) => (xw dB ad P sz u.1 u.2.1 u.2.2.1 u.2.2.2.1 u.2.2.2.2.1 ln wt sy qu u.2.2.2.2.2.1 u.2.2.2.2.2.2)) (va_A (xw dB ad P sz n0 n1 n2 kn fo ln wt sy qu ha tc) hsz)) 0 0 (va_A (xw dB ad P sz n0 n1 n2 kn fo ln wt sy qu ha tc) hsz) := by
  refine en_wi (by decide) (Nat.le_of_ble_eq_true rfl) ?_
  intro p e s m below meth c F hr hlk A hA hK hP hD hS ls hl
  have hx := F.1
  have hb := F.2.1
  have F : CallFix p m c cX0_found 1 s [.ref (ad 0)].toArray lw_all RX0 := F
  have hl : lv_has ls 1 [(0, .ref (ad 0))] := hl
  refine lv_aload_n hx hb dX0_found_0 rfl (lv_at hl 0 rfl) ?_
  refine nc_wv (n := 0) (q0 := 0) (ci := 0) (wr := []) F (metX0_learn l D dB ad P sz n0 n1 n2 kn fo ln wt sy qu ha tc  hI hS0 _) (lw_V q110 q112 qs2 q24 q113) ⟨rfl, rfl⟩ (by decide +kernel) ⟨by decide, by decide⟩ hK hP hD hS hA [0, 1, 2, 3, 4, 5, 6] [] rfl rfl rfl rfl rfl (by decide) rfl rfl rfl rfl hl rfl (Nat.le_of_ble_eq_true rfl) dX0_found_1 ⟨by decide, by decide⟩ (fun u H locs hr1o hP hD hS => ?_)
  obtain ⟨n0_1, n1_1, n2_1, kn_1, fo_1, ha_1, tc_1⟩ := u
  have hP : va_P D vwCl (xw dB ad P sz n0_1 n1_1 n2_1 kn_1 fo_1 ln wt sy qu ha_1 tc_1) H := hP
  have hD : va_D A (xw dB ad P sz n0_1 n1_1 n2_1 kn_1 fo_1 ln wt sy qu ha_1 tc_1) := hD
  have hr1 : kn_1 = 1 ∧ (∀ j, tc_1 j ≤ 3) ∧ cok P sz ln sy qu tc_1 fo_1 := hr1o
  obtain ⟨hkn, htc1, hc⟩ := hr1
  have hfo := fo_lt hc
  refine lv_aload_n hx hb dX0_found_4 rfl (lv_at hl 0 rfl) ?_
  refine gx F hK hP rfl 12 (by decide) q46 rfl dX0_found_5 ?_
  exact rt_wi hx hb hr hlk dX0_found_8 hK hS (n0_1, n1_1, n2_1, kn_1, fo_1, ha_1, tc_1) hP hD ⟨congrArg nI hc.1, ⟨Nat.le_of_eq hkn, htc1, fun _ => hc⟩⟩
set_option maxHeartbeats 4000000 in
/-- foundCount() -/
theorem metX0_foundCount (l : Launch) (D : va_G) (dB : ClassId) (ad : Nat → Nat) (P sz n0 n1 n2 kn fo : Nat) (ln wt sy qu ha tc : Nat → Nat)  (hI : xI P sz ln wt sy qu) (hS0 : xS P sz ln sy qu tc kn fo) (hsz : Nat) : Met l yX0_foundCount (ws_ yX0_foundCount cX0_foundCount 3 (some .int)) (rmN 5 112) (PW D [(dB, .byte)] (xw dB ad P sz n0 n1 n2 kn fo ln wt sy qu ha tc) [.ref (ad 0)] hsz) (QI D [(dB, .byte)] (fun (r : Int32) (u : Nat × Nat × Nat × Nat × Nat × (Nat → Nat) × (Nat → Nat)) => r = (nI (cntOf (fdX P sz ln sy qu) 10)) ∧ xS P sz ln sy qu u.2.2.2.2.2.2 u.2.2.2.1 u.2.2.2.2.1) (fun u : Nat × Nat × Nat × Nat × Nat × (Nat → Nat) × (Nat → Nat) => (xw dB ad P sz u.1 u.2.1 u.2.2.1 u.2.2.2.1 u.2.2.2.2.1 ln wt sy qu u.2.2.2.2.2.1 u.2.2.2.2.2.2)) (va_A (xw dB ad P sz n0 n1 n2 kn fo ln wt sy qu ha tc) hsz)) 0 0 (va_A (xw dB ad P sz n0 n1 n2 kn fo ln wt sy qu ha tc) hsz) := by
  refine en_wi (by decide) (Nat.le_of_ble_eq_true rfl) ?_
  intro p e s m below meth c F hr hlk A hA hK hP hD hS ls hl
  have hx := F.1
  have hb := F.2.1
  have F : CallFix p m c cX0_foundCount 3 s [.ref (ad 0)].toArray lw_all RX0 := F
  have hl : lv_has ls 3 [(0, .ref (ad 0))] := hl
  refine lv_aload_n hx hb dX0_foundCount_0 rfl (lv_at hl 0 rfl) ?_
  refine nc_wv (n := 0) (q0 := 0) (ci := 0) (wr := []) F (metX0_learn l D dB ad P sz n0 n1 n2 kn fo ln wt sy qu ha tc  hI hS0 _) (lw_V q110 q112 qs2 q24 q113) ⟨rfl, rfl⟩ (by decide +kernel) ⟨by decide, by decide⟩ hK hP hD hS hA [0, 1, 2, 3, 4, 5, 6] [] rfl rfl rfl rfl rfl (by decide) rfl rfl rfl rfl hl rfl (Nat.le_of_ble_eq_true rfl) dX0_foundCount_1 ⟨by decide, by decide⟩ (fun u H locs hr1o hP hD hS => ?_)
  obtain ⟨n0_1, n1_1, n2_1, kn_1, fo_1, ha_1, tc_1⟩ := u
  have hP : va_P D vwCl (xw dB ad P sz n0_1 n1_1 n2_1 kn_1 fo_1 ln wt sy qu ha_1 tc_1) H := hP
  have hD : va_D A (xw dB ad P sz n0_1 n1_1 n2_1 kn_1 fo_1 ln wt sy qu ha_1 tc_1) := hD
  have hr1 : kn_1 = 1 ∧ (∀ j, tc_1 j ≤ 3) ∧ cok P sz ln sy qu tc_1 fo_1 := hr1o
  obtain ⟨hkn, htc1, hc⟩ := hr1
  have hfo := fo_lt hc
  refine lv_iconst (v := (nI 0)) hx hb dX0_foundCount_4 (by decide) ?_
  refine lv_istore_n (lv' := [(1, .int (nI 0)), (0, .ref (ad 0))]) hx hb dX0_foundCount_5 rfl hl (by decide) rfl (fun ls hl => ?_)
  refine lv_iconst (v := (nI 0)) hx hb dX0_foundCount_6 (by decide) ?_
  refine lv_istore_n (lv' := [(2, .int (nI 0)), (1, .int (nI 0)), (0, .ref (ad 0))]) hx hb dX0_foundCount_7 rfl hl (by decide) rfl (fun ls hl => ?_)
  refine lp_w2 (I := fun (i : Nat) (n : Nat) H locs ls => va_P D vwCl (xw dB ad P sz n0_1 n1_1 n2_1 kn_1 fo_1 ln wt sy qu ha_1 tc_1) H ∧ va_D A (xw dB ad P sz n0_1 n1_1 n2_1 kn_1 fo_1 ln wt sy qu ha_1 tc_1) ∧ va_S A s.heap H locs ∧ lv_has ls 3 [(0, .ref (ad 0)), (1, .int (nI n)), (2, .int (nI i))] ∧ (i ≤ 10) ∧ (n = cntOf (fdX P sz ln sy qu) i)) (μ := fun (i : Nat) (n : Nat) => 10 - i) ?_ 0 0 _ _ _ ⟨hP, hD, hS, lv_sub hl [2, 1, 0] rfl, (Nat.zero_le _), rfl⟩
  intro i n H locs ls hI0 ih8
  obtain ⟨hP, hD, hS, hl, hi, hn⟩ := hI0
  have hl : lv_has ls 3 [(0, .ref (ad 0)), (1, .int (nI n)), (2, .int (nI i))] := hl
  have hP : va_P D vwCl (xw dB ad P sz n0_1 n1_1 n2_1 kn_1 fo_1 ln wt sy qu ha_1 tc_1) H := hP
  have hD : va_D A (xw dB ad P sz n0_1 n1_1 n2_1 kn_1 fo_1 ln wt sy qu ha_1 tc_1) := hD
  refine lv_iload_n hx hb dX0_foundCount_8 rfl (lv_at hl 2 rfl) ?_
  refine lv_bipush (v := (nI 10)) hx hb dX0_foundCount_9 (by decide) ?_
  refine nv_cge (tgt := 36) hx hb dX0_foundCount_11 (by decide) (by omega) (by omega) (fun c11 => ?_) (fun c11 => ?_)
  · refine lv_iload_n hx hb dX0_foundCount_36 rfl (lv_at hl 1 rfl) ?_
    exact rt_wi hx hb hr hlk dX0_foundCount_37 hK hS (n0_1, n1_1, n2_1, kn_1, fo_1, ha_1, tc_1) hP hD ⟨congrArg nI (by rw [hn, show i = 10 by omega]), ⟨Nat.le_of_eq hkn, htc1, fun _ => hc⟩⟩
  · refine lv_iload_n hx hb dX0_foundCount_14 rfl (lv_at hl 1 rfl) ?_
    refine lv_aload_n hx hb dX0_foundCount_15 rfl (lv_at hl 0 rfl) ?_
    refine lv_iload_n hx hb dX0_foundCount_16 rfl (lv_at hl 2 rfl) ?_
    refine nc_ro (n := 1) (q0 := 0) (ci := 0) F (metX0_isFound l D dB ad P sz n0_1 n1_1 n2_1 kn_1 fo_1 ln wt sy qu ha_1 tc_1 i (by omega) hfo) (lw_V q142 q144 qs10 q24 q145) ⟨rfl, rfl⟩ (by decide +kernel) ⟨by decide, by decide⟩ hK hP rfl rfl rfl rfl hl rfl (Nat.le_of_ble_eq_true rfl) dX0_foundCount_17 ⟨by decide, by decide⟩ (fun r17 hr17 => ?_)
    have hr17 : r17 = (nI (Bool.toNat (fo_1.testBit i))) := hr17
    subst hr17
    refine nv_beq (tgt := 27) hx hb dX0_foundCount_20 (by decide) (fun c20 => ?_) (fun c20 => ?_)
    · rw [fo_tb hc (by omega)] at c20
      refine lv_iconst (v := (nI 0)) hx hb dX0_foundCount_27 (by decide) ?_
      refine nv_iadd hx hb dX0_foundCount_28 ?_
      refine lv_istore_n (lv' := [(1, .int (nI (n + 0))), (0, .ref (ad 0)), (2, .int (nI i))]) hx hb dX0_foundCount_29 rfl hl (by decide) rfl (fun ls hl => ?_)
      refine lv_iinc (v := nI (i + 1)) (lv' := [(2, .int (nI (i + 1))), (1, .int (nI (n + 0))), (0, .ref (ad 0))]) hx hb dX0_foundCount_30 hl (k := 2) rfl (nv_inc _) (by decide) rfl (fun ls hl => ?_)
      refine lv_goto (tgt := 8) hx hb dX0_foundCount_33 (by decide) ?_
      exact ih8 (i + 1) (n + 0) _ _ _ (by first | omega | (dsimp only; omega)) ⟨hP, hD, hS, lv_sub hl [2, 1, 0] rfl, (by omega), (cnt_s hn c20)⟩
    · rw [fo_tb hc (by omega)] at c20
      refine lv_iconst (v := (nI 1)) hx hb dX0_foundCount_23 (by decide) ?_
      refine lv_goto (tgt := 28) hx hb dX0_foundCount_24 (by decide) ?_
      refine nv_iadd hx hb dX0_foundCount_28 ?_
      refine lv_istore_n (lv' := [(1, .int (nI (n + 1))), (0, .ref (ad 0)), (2, .int (nI i))]) hx hb dX0_foundCount_29 rfl hl (by decide) rfl (fun ls hl => ?_)
      refine lv_iinc (v := nI (i + 1)) (lv' := [(2, .int (nI (i + 1))), (1, .int (nI (n + 1))), (0, .ref (ad 0))]) hx hb dX0_foundCount_30 hl (k := 2) rfl (nv_inc _) (by decide) rfl (fun ls hl => ?_)
      refine lv_goto (tgt := 8) hx hb dX0_foundCount_33 (by decide) ?_
      exact ih8 (i + 1) (n + 1) _ _ _ (by first | omega | (dsimp only; omega)) ⟨hP, hD, hS, lv_sub hl [2, 1, 0] rfl, (by omega), (cnt_s hn c20)⟩
set_option maxHeartbeats 4000000 in
/-- typos(w) -/
theorem metX0_typos (l : Launch) (D : va_G) (dB : ClassId) (ad : Nat → Nat) (P sz n0 n1 n2 kn fo : Nat) (ln wt sy qu ha tc : Nat → Nat) (w : Int32) (hI : xI P sz ln wt sy qu) (hS0 : xS P sz ln sy qu tc kn fo) (hsz : Nat) : Met l yX0_typos (ws_ yX0_typos cX0_typos 2 (some .int)) (rmN 5 112) (PW D [(dB, .byte)] (xw dB ad P sz n0 n1 n2 kn fo ln wt sy qu ha tc) [.ref (ad 0), .int w] hsz) (QI D [(dB, .byte)] (fun (r : Int32) (u : Nat × Nat × Nat × Nat × Nat × (Nat → Nat) × (Nat → Nat)) => r = (tyF (hsF P w) (min (edX sz ln sy qu w.toInt.toNat) 3)) ∧ xS P sz ln sy qu u.2.2.2.2.2.2 u.2.2.2.1 u.2.2.2.2.1) (fun u : Nat × Nat × Nat × Nat × Nat × (Nat → Nat) × (Nat → Nat) => (xw dB ad P sz u.1 u.2.1 u.2.2.1 u.2.2.2.1 u.2.2.2.2.1 ln wt sy qu u.2.2.2.2.2.1 u.2.2.2.2.2.2)) (va_A (xw dB ad P sz n0 n1 n2 kn fo ln wt sy qu ha tc) hsz)) 0 0 (va_A (xw dB ad P sz n0 n1 n2 kn fo ln wt sy qu ha tc) hsz) := by
  refine en_wi (by decide) (Nat.le_of_ble_eq_true rfl) ?_
  intro p e s m below meth c F hr hlk A hA hK hP hD hS ls hl
  have hx := F.1
  have hb := F.2.1
  have F : CallFix p m c cX0_typos 2 s [.ref (ad 0), .int w].toArray lw_all RX0 := F
  have hl : lv_has ls 2 [(0, .ref (ad 0)), (1, .int w)] := hl
  refine lv_aload_n hx hb dX0_typos_0 rfl (lv_at hl 0 rfl) ?_
  refine lv_iload_n hx hb dX0_typos_1 rfl (lv_at hl 1 rfl) ?_
  refine nc_ro (n := 1) (q0 := 0) (ci := 0) F (metX0_has l D dB ad P sz n0 n1 n2 kn fo ln wt sy qu ha tc w hI.1) (lw_V q82 q84 qs0 q24 q85) ⟨rfl, rfl⟩ (by decide +kernel) ⟨by decide, by decide⟩ hK hP rfl rfl rfl rfl hl rfl (Nat.le_of_ble_eq_true rfl) dX0_typos_2 ⟨by decide, by decide⟩ (fun r2 hr2 => ?_)
  have hr2 : r2 = (nI (Bool.toNat (hsF P w))) := hr2
  subst hr2
  refine nv_bne (tgt := 10) hx hb dX0_typos_5 (by decide) (fun c5 => ?_) (fun c5 => ?_)
  · obtain ⟨j, hj, rfl, hpj⟩ := inF_ex c5
    refine lv_aload_n hx hb dX0_typos_10 rfl (lv_at hl 0 rfl) ?_
    refine nc_wv (n := 0) (q0 := 0) (ci := 0) (wr := []) F (metX0_learn l D dB ad P sz n0 n1 n2 kn fo ln wt sy qu ha tc  hI hS0 _) (lw_V q110 q112 qs2 q24 q113) ⟨rfl, rfl⟩ (by decide +kernel) ⟨by decide, by decide⟩ hK hP hD hS hA [0, 1, 2, 3, 4, 5, 6] [] rfl rfl rfl rfl rfl (by decide) rfl rfl rfl rfl hl rfl (Nat.le_of_ble_eq_true rfl) dX0_typos_11 ⟨by decide, by decide⟩ (fun u H locs hr11o hP hD hS => ?_)
    obtain ⟨n0_1, n1_1, n2_1, kn_1, fo_1, ha_1, tc_1⟩ := u
    have hP : va_P D vwCl (xw dB ad P sz n0_1 n1_1 n2_1 kn_1 fo_1 ln wt sy qu ha_1 tc_1) H := hP
    have hD : va_D A (xw dB ad P sz n0_1 n1_1 n2_1 kn_1 fo_1 ln wt sy qu ha_1 tc_1) := hD
    have hr11 : kn_1 = 1 ∧ (∀ j, tc_1 j ≤ 3) ∧ cok P sz ln sy qu tc_1 fo_1 := hr11o
    obtain ⟨hkn, htc1, hc⟩ := hr11
    have hfo := fo_lt hc
    refine lv_aload_n hx hb dX0_typos_14 rfl (lv_at hl 0 rfl) ?_
    refine gx F hK hP rfl 11 (by decide) q45 rfl dX0_typos_15 ?_
    refine lv_iload_n hx hb dX0_typos_18 rfl (lv_at hl 1 rfl) ?_
    refine nv_bald (f := tc_1) (n := 10) hx hb hK hP 6 0 rfl rfl (by omega) (by decide) dX0_typos_19 ?_
    exact rt_wi hx hb hr hlk dX0_typos_20 hK hS (n0_1, n1_1, n2_1, kn_1, fo_1, ha_1, tc_1) hP hD ⟨by rw [← tyF_t c5, nI_tn hj, hc.2 j hj hpj]; rfl, ⟨Nat.le_of_eq hkn, htc1, fun _ => hc⟩⟩
  · refine lv_iconst (v := ((-1))) hx hb dX0_typos_8 (by decide) ?_
    exact rt_wi hx hb hr hlk dX0_typos_9 hK hS (n0, n1, n2, kn, fo, ha, tc) hP hD ⟨tyF_f c5, hS0⟩
set_option maxHeartbeats 4000000 in
/-- place(w) -/
theorem metX0_place (l : Launch) (D : va_G) (dB : ClassId) (ad : Nat → Nat) (P sz n0 n1 n2 kn fo : Nat) (ln wt sy qu ha tc : Nat → Nat) (w : Int32) (hI : xI P sz ln wt sy qu) (hS0 : xS P sz ln sy qu tc kn fo) (hsz : Nat) : Met l yX0_place (ws_ yX0_place cX0_place 4 (some .int)) (rmN 5 112) (PW D [(dB, .byte)] (xw dB ad P sz n0 n1 n2 kn fo ln wt sy qu ha tc) [.ref (ad 0), .int w] hsz) (QI D [(dB, .byte)] (fun (r : Int32) (u : Nat × Nat × Nat × Nat × Nat × (Nat → Nat) × (Nat → Nat)) => r = (tyF (inF 10 (fdX P sz ln sy qu) w) (plX P sz ln wt sy qu w.toInt.toNat)) ∧ xS P sz ln sy qu u.2.2.2.2.2.2 u.2.2.2.1 u.2.2.2.2.1 ∧ (kn = 1 → u.2.2.2.1 = 1)) (fun u : Nat × Nat × Nat × Nat × Nat × (Nat → Nat) × (Nat → Nat) => (xw dB ad P sz u.1 u.2.1 u.2.2.1 u.2.2.2.1 u.2.2.2.2.1 ln wt sy qu u.2.2.2.2.2.1 u.2.2.2.2.2.2)) (va_A (xw dB ad P sz n0 n1 n2 kn fo ln wt sy qu ha tc) hsz)) 0 0 (va_A (xw dB ad P sz n0 n1 n2 kn fo ln wt sy qu ha tc) hsz) := by
  refine en_wi (by decide) (Nat.le_of_ble_eq_true rfl) ?_
  intro p e s m below meth c F hr hlk A hA hK hP hD hS ls hl
  have hx := F.1
  have hb := F.2.1
  have F : CallFix p m c cX0_place 4 s [.ref (ad 0), .int w].toArray lw_all RX0 := F
  have hl : lv_has ls 4 [(0, .ref (ad 0)), (1, .int w)] := hl
  refine lv_aload_n hx hb dX0_place_0 rfl (lv_at hl 0 rfl) ?_
  refine lv_iload_n hx hb dX0_place_1 rfl (lv_at hl 1 rfl) ?_
  refine nc_ro (n := 1) (q0 := 0) (ci := 0) F (metX0_has l D dB ad P sz n0 n1 n2 kn fo ln wt sy qu ha tc w hI.1) (lw_V q82 q84 qs0 q24 q85) ⟨rfl, rfl⟩ (by decide +kernel) ⟨by decide, by decide⟩ hK hP rfl rfl rfl rfl hl rfl (Nat.le_of_ble_eq_true rfl) dX0_place_2 ⟨by decide, by decide⟩ (fun r2 hr2 => ?_)
  have hr2 : r2 = (nI (Bool.toNat (hsF P w))) := hr2
  subst hr2
  refine nv_bne (tgt := 10) hx hb dX0_place_5 (by decide) (fun c5 => ?_) (fun c5 => ?_)
  · obtain ⟨j, hj, rfl, hpj⟩ := inF_ex c5
    refine lv_aload_n hx hb dX0_place_10 rfl (lv_at hl 0 rfl) ?_
    refine nc_wv (n := 0) (q0 := 0) (ci := 0) (wr := []) F (metX0_learn l D dB ad P sz n0 n1 n2 kn fo ln wt sy qu ha tc  hI hS0 _) (lw_V q110 q112 qs2 q24 q113) ⟨rfl, rfl⟩ (by decide +kernel) ⟨by decide, by decide⟩ hK hP hD hS hA [0, 1, 2, 3, 4, 5, 6] [] rfl rfl rfl rfl rfl (by decide) rfl rfl rfl rfl hl rfl (Nat.le_of_ble_eq_true rfl) dX0_place_11 ⟨by decide, by decide⟩ (fun u H locs hr11o hP hD hS => ?_)
    obtain ⟨n0_1, n1_1, n2_1, kn_1, fo_1, ha_1, tc_1⟩ := u
    have hP : va_P D vwCl (xw dB ad P sz n0_1 n1_1 n2_1 kn_1 fo_1 ln wt sy qu ha_1 tc_1) H := hP
    have hD : va_D A (xw dB ad P sz n0_1 n1_1 n2_1 kn_1 fo_1 ln wt sy qu ha_1 tc_1) := hD
    have hr11 : kn_1 = 1 ∧ (∀ j, tc_1 j ≤ 3) ∧ cok P sz ln sy qu tc_1 fo_1 := hr11o
    obtain ⟨hkn, htc1, hc⟩ := hr11
    have hfo := fo_lt hc
    refine lv_aload_n hx hb dX0_place_14 rfl (lv_at hl 0 rfl) ?_
    refine lv_iload_n hx hb dX0_place_15 rfl (lv_at hl 1 rfl) ?_
    refine nc_ro (n := 1) (q0 := 0) (ci := 0) F (metX0_isFound l D dB ad P sz n0_1 n1_1 n2_1 kn_1 fo_1 ln wt sy qu ha_1 tc_1 j (by omega) hfo) (lw_V q142 q144 qs10 q24 q145) ⟨rfl, rfl⟩ (by decide +kernel) ⟨by decide, by decide⟩ hK hP rfl rfl rfl rfl hl rfl (Nat.le_of_ble_eq_true rfl) dX0_place_16 ⟨by decide, by decide⟩ (fun r16 hr16 => ?_)
    have hr16 : r16 = (nI (Bool.toNat (fo_1.testBit j))) := hr16
    subst hr16
    refine nv_bne (tgt := 24) hx hb dX0_place_19 (by decide) (fun c19 => ?_) (fun c19 => ?_)
    · rw [fo_tb hc hj] at c19
      refine lv_iconst (v := (nI 0)) hx hb dX0_place_24 (by decide) ?_
      refine lv_istore_n (lv' := [(2, .int (nI 0)), (0, .ref (ad 0)), (1, .int (nI j))]) hx hb dX0_place_25 rfl hl (by decide) rfl (fun ls hl => ?_)
      refine lv_iconst (v := (nI 0)) hx hb dX0_place_26 (by decide) ?_
      refine lv_istore_n (lv' := [(3, .int (nI 0)), (2, .int (nI 0)), (0, .ref (ad 0)), (1, .int (nI j))]) hx hb dX0_place_27 rfl hl (by decide) rfl (fun ls hl => ?_)
      refine lp_w2 (I := fun (i : Nat) (n : Nat) H locs ls => va_P D vwCl (xw dB ad P sz n0_1 n1_1 n2_1 kn_1 fo_1 ln wt sy qu ha_1 tc_1) H ∧ va_D A (xw dB ad P sz n0_1 n1_1 n2_1 kn_1 fo_1 ln wt sy qu ha_1 tc_1) ∧ va_S A s.heap H locs ∧ lv_has ls 4 [(0, .ref (ad 0)), (1, .int (nI j)), (2, .int (nI n)), (3, .int (nI i))] ∧ (i ≤ 10) ∧ (n = cntOf (fun v => decide (v ≠ j) && (fdX P sz ln sy qu v && gb (edX sz ln sy qu v) (edX sz ln sy qu j) (exB sz ln sy qu v) (exB sz ln sy qu j) (ln v) (ln j) (wt v) (wt j) v j)) i)) (μ := fun (i : Nat) (n : Nat) => 10 - i) ?_ 0 0 _ _ _ ⟨hP, hD, hS, lv_sub hl [2, 3, 1, 0] rfl, (Nat.zero_le _), rfl⟩
      intro i n H locs ls hI0 ih28
      obtain ⟨hP, hD, hS, hl, hi, hn⟩ := hI0
      have hl : lv_has ls 4 [(0, .ref (ad 0)), (1, .int (nI j)), (2, .int (nI n)), (3, .int (nI i))] := hl
      have hP : va_P D vwCl (xw dB ad P sz n0_1 n1_1 n2_1 kn_1 fo_1 ln wt sy qu ha_1 tc_1) H := hP
      have hD : va_D A (xw dB ad P sz n0_1 n1_1 n2_1 kn_1 fo_1 ln wt sy qu ha_1 tc_1) := hD
      refine lv_iload_n hx hb dX0_place_28 rfl (lv_at hl 3 rfl) ?_
      refine lv_bipush (v := (nI 10)) hx hb dX0_place_29 (by decide) ?_
      refine nv_cge (tgt := 70) hx hb dX0_place_31 (by decide) (by omega) (by omega) (fun c31 => ?_) (fun c31 => ?_)
      · refine lv_iload_n hx hb dX0_place_70 rfl (lv_at hl 2 rfl) ?_
        exact rt_wi hx hb hr hlk dX0_place_71 hK hS (n0_1, n1_1, n2_1, kn_1, fo_1, ha_1, tc_1) hP hD ⟨by rw [← tyF_t (show inF 10 (fdX P sz ln sy qu) (nI j) = true by rw [inF_n hj (by decide)]; exact c19), nI_tn hj, hn, show i = 10 by omega]; rfl, ⟨Nat.le_of_eq hkn, htc1, fun _ => hc⟩, fun _ => hkn⟩
      · refine lv_iload_n hx hb dX0_place_34 rfl (lv_at hl 2 rfl) ?_
        refine lv_iload_n hx hb dX0_place_35 rfl (lv_at hl 3 rfl) ?_
        refine lv_iload_n hx hb dX0_place_36 rfl (lv_at hl 1 rfl) ?_
        refine nv_ceq (tgt := 61) hx hb dX0_place_37 (by decide) (by omega) (by omega) (fun c37 => ?_) (fun c37 => ?_)
        · refine lv_iconst (v := (nI 0)) hx hb dX0_place_61 (by decide) ?_
          refine nv_iadd hx hb dX0_place_62 ?_
          refine lv_istore_n (lv' := [(2, .int (nI (n + 0))), (0, .ref (ad 0)), (1, .int (nI j)), (3, .int (nI i))]) hx hb dX0_place_63 rfl hl (by decide) rfl (fun ls hl => ?_)
          refine lv_iinc (v := nI (i + 1)) (lv' := [(3, .int (nI (i + 1))), (2, .int (nI (n + 0))), (0, .ref (ad 0)), (1, .int (nI j))]) hx hb dX0_place_64 hl (k := 3) rfl (nv_inc _) (by decide) rfl (fun ls hl => ?_)
          refine lv_goto (tgt := 28) hx hb dX0_place_67 (by decide) ?_
          exact ih28 (i + 1) (n + 0) _ _ _ (by first | omega | (dsimp only; omega)) ⟨hP, hD, hS, lv_sub hl [2, 3, 1, 0] rfl, (by omega), (cnt_s (b := false) hn (by simp [c37]))⟩
        · refine lv_aload_n hx hb dX0_place_40 rfl (lv_at hl 0 rfl) ?_
          refine lv_iload_n hx hb dX0_place_41 rfl (lv_at hl 3 rfl) ?_
          refine nc_ro (n := 1) (q0 := 0) (ci := 0) F (metX0_isFound l D dB ad P sz n0_1 n1_1 n2_1 kn_1 fo_1 ln wt sy qu ha_1 tc_1 i (by omega) hfo) (lw_V q142 q144 qs10 q24 q145) ⟨rfl, rfl⟩ (by decide +kernel) ⟨by decide, by decide⟩ hK hP rfl rfl rfl rfl hl rfl (Nat.le_of_ble_eq_true rfl) dX0_place_42 ⟨by decide, by decide⟩ (fun r42 hr42 => ?_)
          have hr42 : r42 = (nI (Bool.toNat (fo_1.testBit i))) := hr42
          subst hr42
          refine nv_beq (tgt := 61) hx hb dX0_place_45 (by decide) (fun c45 => ?_) (fun c45 => ?_)
          · rw [fo_tb hc (by omega)] at c45
            refine lv_iconst (v := (nI 0)) hx hb dX0_place_61 (by decide) ?_
            refine nv_iadd hx hb dX0_place_62 ?_
            refine lv_istore_n (lv' := [(2, .int (nI (n + 0))), (0, .ref (ad 0)), (1, .int (nI j)), (3, .int (nI i))]) hx hb dX0_place_63 rfl hl (by decide) rfl (fun ls hl => ?_)
            refine lv_iinc (v := nI (i + 1)) (lv' := [(3, .int (nI (i + 1))), (2, .int (nI (n + 0))), (0, .ref (ad 0)), (1, .int (nI j))]) hx hb dX0_place_64 hl (k := 3) rfl (nv_inc _) (by decide) rfl (fun ls hl => ?_)
            refine lv_goto (tgt := 28) hx hb dX0_place_67 (by decide) ?_
            exact ih28 (i + 1) (n + 0) _ _ _ (by first | omega | (dsimp only; omega)) ⟨hP, hD, hS, lv_sub hl [2, 3, 1, 0] rfl, (by omega), (cnt_s (b := false) hn (by simp [c45]))⟩
          · rw [fo_tb hc (by omega)] at c45
            refine lv_aload_n hx hb dX0_place_48 rfl (lv_at hl 0 rfl) ?_
            refine lv_iload_n hx hb dX0_place_49 rfl (lv_at hl 3 rfl) ?_
            refine lv_iload_n hx hb dX0_place_50 rfl (lv_at hl 1 rfl) ?_
            refine nc_ro (n := 2) (q0 := 0) (ci := 0) F (metX0_goesBefore l D dB ad P sz n0_1 n1_1 n2_1 kn_1 fo_1 ln wt sy qu ha_1 tc_1 i j hI htc1 (by omega) (by omega)) (lw_V q170 q172 qs11 q24 q173) ⟨rfl, rfl⟩ (by decide +kernel) ⟨by decide, by decide⟩ hK hP rfl rfl rfl rfl hl rfl (Nat.le_of_ble_eq_true rfl) dX0_place_51 ⟨by decide, by decide⟩ (fun r51 hr51 => ?_)
            have hr51 : r51 = (nI (Bool.toNat (gb (tc_1 i) (tc_1 j) (exB sz ln sy qu i) (exB sz ln sy qu j) (ln i) (ln j) (wt i) (wt j) i j))) := hr51
            subst hr51
            refine nv_beq (tgt := 61) hx hb dX0_place_54 (by decide) (fun c54 => ?_) (fun c54 => ?_)
            · rw [fd_tc hc (by omega) c45, fd_tc hc hj c19] at c54
              refine lv_iconst (v := (nI 0)) hx hb dX0_place_61 (by decide) ?_
              refine nv_iadd hx hb dX0_place_62 ?_
              refine lv_istore_n (lv' := [(2, .int (nI (n + 0))), (0, .ref (ad 0)), (1, .int (nI j)), (3, .int (nI i))]) hx hb dX0_place_63 rfl hl (by decide) rfl (fun ls hl => ?_)
              refine lv_iinc (v := nI (i + 1)) (lv' := [(3, .int (nI (i + 1))), (2, .int (nI (n + 0))), (0, .ref (ad 0)), (1, .int (nI j))]) hx hb dX0_place_64 hl (k := 3) rfl (nv_inc _) (by decide) rfl (fun ls hl => ?_)
              refine lv_goto (tgt := 28) hx hb dX0_place_67 (by decide) ?_
              exact ih28 (i + 1) (n + 0) _ _ _ (by first | omega | (dsimp only; omega)) ⟨hP, hD, hS, lv_sub hl [2, 3, 1, 0] rfl, (by omega), (cnt_s (b := false) hn (by simp [c54]))⟩
            · rw [fd_tc hc (by omega) c45, fd_tc hc hj c19] at c54
              refine lv_iconst (v := (nI 1)) hx hb dX0_place_57 (by decide) ?_
              refine lv_goto (tgt := 62) hx hb dX0_place_58 (by decide) ?_
              refine nv_iadd hx hb dX0_place_62 ?_
              refine lv_istore_n (lv' := [(2, .int (nI (n + 1))), (0, .ref (ad 0)), (1, .int (nI j)), (3, .int (nI i))]) hx hb dX0_place_63 rfl hl (by decide) rfl (fun ls hl => ?_)
              refine lv_iinc (v := nI (i + 1)) (lv' := [(3, .int (nI (i + 1))), (2, .int (nI (n + 1))), (0, .ref (ad 0)), (1, .int (nI j))]) hx hb dX0_place_64 hl (k := 3) rfl (nv_inc _) (by decide) rfl (fun ls hl => ?_)
              refine lv_goto (tgt := 28) hx hb dX0_place_67 (by decide) ?_
              exact ih28 (i + 1) (n + 1) _ _ _ (by first | omega | (dsimp only; omega)) ⟨hP, hD, hS, lv_sub hl [2, 3, 1, 0] rfl, (by omega), (cnt_s (b := true) hn (by simp [c37, c45, c54]))⟩
    · rw [fo_tb hc hj] at c19
      refine lv_iconst (v := ((-1))) hx hb dX0_place_22 (by decide) ?_
      exact rt_wi hx hb hr hlk dX0_place_23 hK hS (n0_1, n1_1, n2_1, kn_1, fo_1, ha_1, tc_1) hP hD ⟨tyF_f (show inF 10 (fdX P sz ln sy qu) (nI j) = false by rw [inF_n hj (by decide)]; exact c19), ⟨Nat.le_of_eq hkn, htc1, fun _ => hc⟩, fun _ => hkn⟩
  · refine lv_iconst (v := ((-1))) hx hb dX0_place_8 (by decide) ?_
    exact rt_wi hx hb hr hlk dX0_place_9 hK hS (n0, n1, n2, kn, fo, ha, tc) hP hD ⟨tyF_f (nh_f c5), hS0, fun z => z⟩
set_option maxHeartbeats 4000000 in
/-- at(k) -/
theorem metX0_at (l : Launch) (D : va_G) (dB : ClassId) (ad : Nat → Nat) (P sz n0 n1 n2 kn fo : Nat) (ln wt sy qu ha tc : Nat → Nat) (k : Int32) (hI : xI P sz ln wt sy qu) (hS0 : xS P sz ln sy qu tc kn fo) (hsz : Nat) : Met l yX0_at (ws_ yX0_at cX0_at 3 (some .int)) (rmN 6 135) (PW D [(dB, .byte)] (xw dB ad P sz n0 n1 n2 kn fo ln wt sy qu ha tc) [.ref (ad 0), .int k] hsz) (QI D [(dB, .byte)] (fun (r : Int32) (u : Nat × Nat × Nat × Nat × Nat × (Nat → Nat) × (Nat → Nat)) => atR (fdX P sz ln sy qu) (plX P sz ln wt sy qu) k r ∧ xS P sz ln sy qu u.2.2.2.2.2.2 u.2.2.2.1 u.2.2.2.2.1) (fun u : Nat × Nat × Nat × Nat × Nat × (Nat → Nat) × (Nat → Nat) => (xw dB ad P sz u.1 u.2.1 u.2.2.1 u.2.2.2.1 u.2.2.2.2.1 ln wt sy qu u.2.2.2.2.2.1 u.2.2.2.2.2.2)) (va_A (xw dB ad P sz n0 n1 n2 kn fo ln wt sy qu ha tc) hsz)) 0 0 (va_A (xw dB ad P sz n0 n1 n2 kn fo ln wt sy qu ha tc) hsz) := by
  refine en_wi (by decide) (Nat.le_of_ble_eq_true rfl) ?_
  intro p e s m below meth c F hr hlk A hA hK hP hD hS ls hl
  have hx := F.1
  have hb := F.2.1
  have F : CallFix p m c cX0_at 3 s [.ref (ad 0), .int k].toArray lw_all RX0 := F
  have hl : lv_has ls 3 [(0, .ref (ad 0)), (1, .int k)] := hl
  refine lv_aload_n hx hb dX0_at_0 rfl (lv_at hl 0 rfl) ?_
  refine nc_wv (n := 0) (q0 := 0) (ci := 0) (wr := []) F (metX0_learn l D dB ad P sz n0 n1 n2 kn fo ln wt sy qu ha tc  hI hS0 _) (lw_V q110 q112 qs2 q24 q113) ⟨rfl, rfl⟩ (by decide +kernel) ⟨by decide, by decide⟩ hK hP hD hS hA [0, 1, 2, 3, 4, 5, 6] [] rfl rfl rfl rfl rfl (by decide) rfl rfl rfl rfl hl rfl (Nat.le_of_ble_eq_true rfl) dX0_at_1 ⟨by decide, by decide⟩ (fun u H locs hr1o hP hD hS => ?_)
  obtain ⟨n0_1, n1_1, n2_1, kn_1, fo_1, ha_1, tc_1⟩ := u
  have hP : va_P D vwCl (xw dB ad P sz n0_1 n1_1 n2_1 kn_1 fo_1 ln wt sy qu ha_1 tc_1) H := hP
  have hD : va_D A (xw dB ad P sz n0_1 n1_1 n2_1 kn_1 fo_1 ln wt sy qu ha_1 tc_1) := hD
  have hr1 : kn_1 = 1 ∧ (∀ j, tc_1 j ≤ 3) ∧ cok P sz ln sy qu tc_1 fo_1 := hr1o
  obtain ⟨hkn0, htc0, hc0⟩ := hr1
  refine lv_iconst (v := (nI 0)) hx hb dX0_at_4 (by decide) ?_
  refine lv_istore_n (lv' := [(2, .int (nI 0)), (0, .ref (ad 0)), (1, .int k)]) hx hb dX0_at_5 rfl hl (by decide) rfl (fun ls hl => ?_)
  refine lp_w8 (I := fun (i : Nat) (a0 : Nat) (a1 : Nat) (a2 : Nat) (kk : Nat) (f : Nat) (h : Nat → Nat) (t : Nat → Nat) H locs ls => va_P D vwCl (xw dB ad P sz a0 a1 a2 kk f ln wt sy qu h t) H ∧ va_D A (xw dB ad P sz a0 a1 a2 kk f ln wt sy qu h t) ∧ va_S A s.heap H locs ∧ lv_has ls 3 [(0, .ref (ad 0)), (1, .int k), (2, .int (nI i))] ∧ (i ≤ 10) ∧ (kk = 1) ∧ (∀ j, t j ≤ 3) ∧ (cok P sz ln sy qu t f) ∧ (∀ v, v < i → (fdX P sz ln sy qu v && decide (nI (plX P sz ln wt sy qu v) = k)) = false)) (μ := fun (i : Nat) (a0 : Nat) (a1 : Nat) (a2 : Nat) (kk : Nat) (f : Nat) (h : Nat → Nat) (t : Nat → Nat) => 10 - i) ?_ 0 n0_1 n1_1 n2_1 kn_1 fo_1 ha_1 tc_1 _ _ _ ⟨hP, hD, hS, lv_sub hl [1, 2, 0] rfl, (Nat.zero_le _), hkn0, htc0, hc0, (fun v hv => absurd hv (Nat.not_lt_zero v))⟩
  intro i a0 a1 a2 kk f h t H locs ls hI0 ih6
  obtain ⟨hP, hD, hS, hl, hi, hkn, htc1, hc, hno⟩ := hI0
  have hl : lv_has ls 3 [(0, .ref (ad 0)), (1, .int k), (2, .int (nI i))] := hl
  have hP : va_P D vwCl (xw dB ad P sz a0 a1 a2 kk f ln wt sy qu h t) H := hP
  have hD : va_D A (xw dB ad P sz a0 a1 a2 kk f ln wt sy qu h t) := hD
  have hfo := fo_lt hc
  refine lv_iload_n hx hb dX0_at_6 rfl (lv_at hl 2 rfl) ?_
  refine lv_bipush (v := (nI 10)) hx hb dX0_at_7 (by decide) ?_
  refine nv_cge (tgt := 37) hx hb dX0_at_9 (by decide) (by omega) (by omega) (fun c9 => ?_) (fun c9 => ?_)
  · refine lv_iconst (v := ((-1))) hx hb dX0_at_37 (by decide) ?_
    exact rt_wi hx hb hr hlk dX0_at_38 hK hS (a0, a1, a2, kk, f, h, t) hP hD ⟨Or.inr ⟨fun v hv => hno v (by omega), rfl⟩, ⟨Nat.le_of_eq hkn, htc1, fun _ => hc⟩⟩
  · refine lv_aload_n hx hb dX0_at_12 rfl (lv_at hl 0 rfl) ?_
    refine lv_iload_n hx hb dX0_at_13 rfl (lv_at hl 2 rfl) ?_
    refine nc_ro (n := 1) (q0 := 0) (ci := 0) F (metX0_isFound l D dB ad P sz a0 a1 a2 kk f ln wt sy qu h t i (by omega) hfo) (lw_V q142 q144 qs10 q24 q145) ⟨rfl, rfl⟩ (by decide +kernel) ⟨by decide, by decide⟩ hK hP rfl rfl rfl rfl hl rfl (Nat.le_of_ble_eq_true rfl) dX0_at_14 ⟨by decide, by decide⟩ (fun r14 hr14 => ?_)
    have hr14 : r14 = (nI (Bool.toNat (f.testBit i))) := hr14
    subst hr14
    refine nv_beq (tgt := 31) hx hb dX0_at_17 (by decide) (fun c17 => ?_) (fun c17 => ?_)
    · rw [fo_tb hc (by omega)] at c17
      refine lv_iinc (v := nI (i + 1)) (lv' := [(2, .int (nI (i + 1))), (0, .ref (ad 0)), (1, .int k)]) hx hb dX0_at_31 hl (k := 2) rfl (nv_inc _) (by decide) rfl (fun ls hl => ?_)
      refine lv_goto (tgt := 6) hx hb dX0_at_34 (by decide) ?_
      exact ih6 (i + 1) a0 a1 a2 kk f h t _ _ _ (by first | omega | (dsimp only; omega)) ⟨hP, hD, hS, lv_sub hl [1, 2, 0] rfl, (by omega), hkn, htc1, hc, (lt_s hno (by rw [c17]; rfl))⟩
    · rw [fo_tb hc (by omega)] at c17
      refine lv_aload_n hx hb dX0_at_20 rfl (lv_at hl 0 rfl) ?_
      refine lv_iload_n hx hb dX0_at_21 rfl (lv_at hl 2 rfl) ?_
      refine nc_wi (n := 1) (q0 := 0) (ci := 0) (wr := []) F (metX0_place l D dB ad P sz a0 a1 a2 kk f ln wt sy qu h t (nI i) hI ⟨Nat.le_of_eq hkn, htc1, fun _ => hc⟩ _) (lw_V q166 q167 q168 q24 q169) ⟨rfl, rfl⟩ (by decide +kernel) ⟨by decide, by decide⟩ hK hP hD hS hA [0, 1, 2, 3, 4, 5, 6] [] rfl rfl rfl rfl rfl (by decide) rfl rfl rfl rfl hl rfl (Nat.le_of_ble_eq_true rfl) dX0_at_22 ⟨by decide, by decide⟩ (fun r22 u H locs hr22o hP hD hS => ?_)
      obtain ⟨n0_2, n1_2, n2_2, kn_2, fo_2, ha_2, tc_2⟩ := u
      have hP : va_P D vwCl (xw dB ad P sz n0_2 n1_2 n2_2 kn_2 fo_2 ln wt sy qu ha_2 tc_2) H := hP
      have hD : va_D A (xw dB ad P sz n0_2 n1_2 n2_2 kn_2 fo_2 ln wt sy qu ha_2 tc_2) := hD
      have hr22 : r22 = (tyF (inF 10 (fdX P sz ln sy qu) ((nI i))) (plX P sz ln wt sy qu ((nI i)).toInt.toNat)) ∧ (xS P sz ln sy qu tc_2 kn_2 fo_2 ∧ (kk = 1 → kn_2 = 1)) := hr22o
      obtain ⟨hr22e, hr22⟩ := hr22
      subst hr22e
      have hkn1 := hr22.2 hkn
      rw [← tyF_t (show inF 10 (fdX P sz ln sy qu) (nI i) = true by rw [inF_n (by omega) (by decide)]; exact c17), nI_tn (by omega)]
      refine lv_iload_n hx hb dX0_at_25 rfl (lv_at hl 1 rfl) ?_
      refine lv_icmp_ne (tgt := 31) hx hb dX0_at_26 (by decide) (fun c26 => ?_) (fun c26 => ?_)
      · refine lv_iinc (v := nI (i + 1)) (lv' := [(2, .int (nI (i + 1))), (0, .ref (ad 0)), (1, .int k)]) hx hb dX0_at_31 hl (k := 2) rfl (nv_inc _) (by decide) rfl (fun ls hl => ?_)
        refine lv_goto (tgt := 6) hx hb dX0_at_34 (by decide) ?_
        exact ih6 (i + 1) n0_2 n1_2 n2_2 kn_2 fo_2 ha_2 tc_2 _ _ _ (by first | omega | (dsimp only; omega)) ⟨hP, hD, hS, lv_sub hl [1, 2, 0] rfl, (by omega), hkn1, hr22.1.2.1, (hr22.1.2.2 hkn1), (lt_s hno (by rw [c17, decide_eq_false c26]; rfl))⟩
      · refine lv_iload_n hx hb dX0_at_29 rfl (lv_at hl 2 rfl) ?_
        exact rt_wi hx hb hr hlk dX0_at_30 hK hS (n0_2, n1_2, n2_2, kn_2, fo_2, ha_2, tc_2) hP hD ⟨Or.inl ⟨i, ⟨by omega, by simp [c17, c26], hno⟩, rfl⟩, hr22.1⟩
end
section
set_option maxRecDepth 100000
set_option maxHeartbeats 4000000 in
/-- begin(x, y) -/
theorem metX0_begin (l : Launch) (D : va_G) (dB : ClassId) (ad : Nat → Nat) (P sz n0 n1 n2 kn fo : Nat) (ln wt sy qu ha tc : Nat → Nat) (x : Int32) (y : Int32) (hI : xI P sz ln wt sy qu) (hS0 : xS P sz ln sy qu tc kn fo) (hsz : Nat) : Met l yX0_begin (ws_ yX0_begin cX0_begin 4 (some .int)) (rmN 1 21) (PW D [(dB, .byte)] (xw dB ad P sz n0 n1 n2 kn fo ln wt sy qu ha tc) [.ref (ad 0), .int x, .int y] hsz) (QI D [(dB, .byte)] (fun (r : Int32) (u : Nat × Nat × (Nat → Nat) × (Nat → Nat) × (Nat → Nat)) => bgR (fun v => !P.testBit v) x y r (u.1 = P ∧ u.2.1 = kn ∧ u.2.2.1 = ln ∧ u.2.2.2.1 = wt ∧ u.2.2.2.2 = sy) (fun j k w => u.1 = P ||| 1 <<< w ∧ u.2.2.1 = upN ln w 1 ∧ u.2.2.2.1 = upN wt w k ∧ u.2.2.2.2 = upN sy (6 * w) j) ∧ xS u.1 sz u.2.2.1 u.2.2.2.2 qu tc u.2.1 fo) (fun u : Nat × Nat × (Nat → Nat) × (Nat → Nat) × (Nat → Nat) => (xw dB ad u.1 sz n0 n1 n2 u.2.1 fo u.2.2.1 u.2.2.2.1 u.2.2.2.2 qu ha tc)) (va_A (xw dB ad P sz n0 n1 n2 kn fo ln wt sy qu ha tc) hsz)) 0 0 (va_A (xw dB ad P sz n0 n1 n2 kn fo ln wt sy qu ha tc) hsz) := by
  refine en_wi (by decide) (Nat.le_of_ble_eq_true rfl) ?_
  intro p e s m below meth c F hr hlk A hA hK hP hD hS ls hl
  have hx := F.1
  have hb := F.2.1
  have F : CallFix p m c cX0_begin 4 s [.ref (ad 0), .int x, .int y].toArray lw_all RX0 := F
  have hl : lv_has ls 4 [(0, .ref (ad 0)), (1, .int x), (2, .int y)] := hl
  obtain ⟨hI1, hs6, hln, hwt, hsy, hqu⟩ := id hI
  obtain ⟨hk1, htc, hco⟩ := id hS0
  refine lv_iload_n hx hb dX0_begin_0 rfl (lv_at hl 1 rfl) ?_
  refine nc_st (n := 1) F (metX0_isSymbol l x ) (lw_S q79 q80 q24 q81) ⟨rfl, rfl⟩ (by decide +kernel) ⟨by decide, by decide⟩ rfl hl rfl (Nat.le_of_ble_eq_true rfl) dX0_begin_1 ⟨by decide, by decide⟩ (fun r1 hr1 => ?_)
  have hr1 : r1 = (nI (Bool.toNat (smF x))) := hr1
  subst hr1
  refine nv_beq (tgt := 17) hx hb dX0_begin_4 (by decide) (fun c4 => ?_) (fun c4 => ?_)
  · refine lv_iconst (v := ((-1))) hx hb dX0_begin_17 (by decide) ?_
    exact rt_wi hx hb hr hlk dX0_begin_18 hK hS (P, kn, ln, wt, sy) hP hD ⟨Or.inl ⟨by rw [c4]; rfl, rfl, rfl, rfl, rfl, rfl, rfl⟩, hS0⟩
  · refine lv_iload_n hx hb dX0_begin_7 rfl (lv_at hl 2 rfl) ?_
    refine lv_if_lt (tgt := 17) hx hb dX0_begin_8 (by decide) (fun c8 => ?_) (fun c8 => ?_)
    · refine lv_iconst (v := ((-1))) hx hb dX0_begin_17 (by decide) ?_
      exact rt_wi hx hb hr hlk dX0_begin_18 hK hS (P, kn, ln, wt, sy) hP hD ⟨Or.inl ⟨by rw [show wgF y = false from inF_lo (rg_neg c8)]; simp, rfl, rfl, rfl, rfl, rfl, rfl⟩, hS0⟩
    · refine lv_iload_n hx hb dX0_begin_11 rfl (lv_at hl 2 rfl) ?_
      refine lv_bipush (v := (nI 9)) hx hb dX0_begin_12 (by decide) ?_
      refine lv_icmp_le (tgt := 19) hx hb dX0_begin_14 (by decide) (fun c14 => ?_) (fun c14 => ?_)
      · obtain ⟨j, hj, rfl, -⟩ := inF_ex c4
        obtain ⟨k, hk, rfl⟩ := rg_le (by decide) c8 c14
        refine lv_iconst (v := (nI 0)) hx hb dX0_begin_19 (by decide) ?_
        refine lv_istore_n (lv' := [(3, .int (nI 0)), (0, .ref (ad 0)), (1, .int (nI j)), (2, .int (nI k))]) hx hb dX0_begin_20 rfl hl (by decide) rfl (fun ls hl => ?_)
        refine lp_w1 (I := fun (i : Nat) H locs ls => va_P D vwCl (xw dB ad P sz n0 n1 n2 kn fo ln wt sy qu ha tc) H ∧ va_D A (xw dB ad P sz n0 n1 n2 kn fo ln wt sy qu ha tc) ∧ va_S A s.heap H locs ∧ lv_has ls 4 [(0, .ref (ad 0)), (1, .int (nI j)), (2, .int (nI k)), (3, .int (nI i))] ∧ (i ≤ 10) ∧ (∀ v, v < i → (!P.testBit v) = false)) (μ := fun (i : Nat) => 10 - i) ?_ 0 _ _ _ ⟨hP, hD, hS, lv_sub hl [1, 2, 3, 0] rfl, (Nat.zero_le _), (fun v hv => absurd hv (Nat.not_lt_zero v))⟩
        intro i H locs ls hI0 ih21
        obtain ⟨hP, hD, hS, hl, hi, hno⟩ := hI0
        have hl : lv_has ls 4 [(0, .ref (ad 0)), (1, .int (nI j)), (2, .int (nI k)), (3, .int (nI i))] := hl
        have hP : va_P D vwCl (xw dB ad P sz n0 n1 n2 kn fo ln wt sy qu ha tc) H := hP
        have hD : va_D A (xw dB ad P sz n0 n1 n2 kn fo ln wt sy qu ha tc) := hD
        refine lv_iload_n hx hb dX0_begin_21 rfl (lv_at hl 3 rfl) ?_
        refine lv_bipush (v := (nI 10)) hx hb dX0_begin_22 (by decide) ?_
        refine nv_cge (tgt := 86) hx hb dX0_begin_24 (by decide) (by omega) (by omega) (fun c24 => ?_) (fun c24 => ?_)
        · refine lv_bipush (v := ((-2))) hx hb dX0_begin_86 (by decide) ?_
          exact rt_wi hx hb hr hlk dX0_begin_88 hK hS (P, kn, ln, wt, sy) hP hD ⟨Or.inr (Or.inl ⟨by rw [smF_n hj, wgF_n (by omega)]; rfl, fun v hv => hno v (by omega), rfl, rfl, rfl, rfl, rfl, rfl⟩), hS0⟩
        · refine lv_aload_n hx hb dX0_begin_27 rfl (lv_at hl 0 rfl) ?_
          refine lv_iload_n hx hb dX0_begin_28 rfl (lv_at hl 3 rfl) ?_
          refine nc_ro (n := 1) (q0 := 0) (ci := 0) F (metX0_has l D dB ad P sz n0 n1 n2 kn fo ln wt sy qu ha tc (nI i) hI.1) (lw_V q82 q84 qs0 q24 q85) ⟨rfl, rfl⟩ (by decide +kernel) ⟨by decide, by decide⟩ hK hP rfl rfl rfl rfl hl rfl (Nat.le_of_ble_eq_true rfl) dX0_begin_29 ⟨by decide, by decide⟩ (fun r29 hr29 => ?_)
          have hr29 : r29 = (nI (Bool.toNat (hsF P ((nI i))))) := hr29
          subst hr29
          refine nv_bne (tgt := 80) hx hb dX0_begin_32 (by decide) (fun c32 => ?_) (fun c32 => ?_)
          · rw [hsF_n (by omega)] at c32
            refine lv_iinc (v := nI (i + 1)) (lv' := [(3, .int (nI (i + 1))), (0, .ref (ad 0)), (1, .int (nI j)), (2, .int (nI k))]) hx hb dX0_begin_80 hl (k := 3) rfl (nv_inc _) (by decide) rfl (fun ls hl => ?_)
            refine lv_goto (tgt := 21) hx hb dX0_begin_83 (by decide) ?_
            exact ih21 (i + 1) _ _ _ (by first | omega | (dsimp only; omega)) ⟨hP, hD, hS, lv_sub hl [1, 2, 3, 0] rfl, (by omega), (lt_s hno (by rw [c32]; rfl))⟩
          · rw [hsF_n (by omega)] at c32
            refine lv_aload_n hx hb dX0_begin_35 rfl (lv_at hl 0 rfl) ?_
            refine lv_dup hx hb dX0_begin_36 rfl ?_
            refine gx F hK hP rfl 0 (by decide) q34 rfl dX0_begin_37 ?_
            refine lv_iconst (v := (nI 1)) hx hb dX0_begin_40 (by decide) ?_
            refine lv_iload_n hx hb dX0_begin_41 rfl (lv_at hl 3 rfl) ?_
            refine nv_ishl hx hb (by omega) dX0_begin_42 ?_
            refine nv_ior hx hb dX0_begin_43 ?_
            refine px (ty := .int) F hK hP hD hS rfl 0 (by decide) q34 rfl (by decide +kernel) rfl rfl (Nat.le_of_ble_eq_true rfl) dX0_begin_44 (fun H locs hP hD hS => ?_)
            have hP : va_P D vwCl (xw dB ad (P ||| (1 <<< i)) sz n0 n1 n2 kn fo ln wt sy qu ha tc) H := hP
            have hD : va_D A (xw dB ad (P ||| (1 <<< i)) sz n0 n1 n2 kn fo ln wt sy qu ha tc) := hD
            refine lv_aload_n hx hb dX0_begin_47 rfl (lv_at hl 0 rfl) ?_
            refine gx F hK hP rfl 3 (by decide) q37 rfl dX0_begin_48 ?_
            refine lv_iload_n hx hb dX0_begin_51 rfl (lv_at hl 3 rfl) ?_
            refine lv_bipush (v := (nI 6)) hx hb dX0_begin_52 (by decide) ?_
            refine nv_imulc hx hb dX0_begin_54 ?_
            refine lv_iload_n hx hb dX0_begin_55 rfl (lv_at hl 1 rfl) ?_
            refine lv_i2b (v := nI j) hx hb dX0_begin_56 (nv_b _ (by omega)) ?_
            refine nv_bast (f := sy) (n := 60) (v := j) hx hb hK hP hD hS 3 0 rfl rfl (by omega) (by decide) (by omega) dX0_begin_57 (fun H locs hP hD hS => ?_)
            have hP : va_P D vwCl (xw dB ad (P ||| (1 <<< i)) sz n0 n1 n2 kn fo ln wt (upN sy (6 * i) j) qu ha tc) H := hP
            have hD : va_D A (xw dB ad (P ||| (1 <<< i)) sz n0 n1 n2 kn fo ln wt (upN sy (6 * i) j) qu ha tc) := hD
            refine lv_aload_n hx hb dX0_begin_58 rfl (lv_at hl 0 rfl) ?_
            refine gx F hK hP rfl 1 (by decide) q35 rfl dX0_begin_59 ?_
            refine lv_iload_n hx hb dX0_begin_62 rfl (lv_at hl 3 rfl) ?_
            refine lv_iconst (v := (nI 1)) hx hb dX0_begin_63 (by decide) ?_
            refine nv_bast (f := ln) (n := 10) (v := 1) hx hb hK hP hD hS 1 0 rfl rfl (by omega) (by decide) (by omega) dX0_begin_64 (fun H locs hP hD hS => ?_)
            have hP : va_P D vwCl (xw dB ad (P ||| (1 <<< i)) sz n0 n1 n2 kn fo (upN ln i 1) wt (upN sy (6 * i) j) qu ha tc) H := hP
            have hD : va_D A (xw dB ad (P ||| (1 <<< i)) sz n0 n1 n2 kn fo (upN ln i 1) wt (upN sy (6 * i) j) qu ha tc) := hD
            refine lv_aload_n hx hb dX0_begin_65 rfl (lv_at hl 0 rfl) ?_
            refine gx F hK hP rfl 2 (by decide) q36 rfl dX0_begin_66 ?_
            refine lv_iload_n hx hb dX0_begin_69 rfl (lv_at hl 3 rfl) ?_
            refine lv_iload_n hx hb dX0_begin_70 rfl (lv_at hl 2 rfl) ?_
            refine lv_i2b (v := nI k) hx hb dX0_begin_71 (nv_b _ (by omega)) ?_
            refine nv_bast (f := wt) (n := 10) (v := k) hx hb hK hP hD hS 2 0 rfl rfl (by omega) (by decide) (by omega) dX0_begin_72 (fun H locs hP hD hS => ?_)
            have hP : va_P D vwCl (xw dB ad (P ||| (1 <<< i)) sz n0 n1 n2 kn fo (upN ln i 1) (upN wt i k) (upN sy (6 * i) j) qu ha tc) H := hP
            have hD : va_D A (xw dB ad (P ||| (1 <<< i)) sz n0 n1 n2 kn fo (upN ln i 1) (upN wt i k) (upN sy (6 * i) j) qu ha tc) := hD
            refine lv_aload_n hx hb dX0_begin_73 rfl (lv_at hl 0 rfl) ?_
            refine lv_iconst (v := (nI 0)) hx hb dX0_begin_74 (by decide) ?_
            refine px (ty := .boolean) F hK hP hD hS rfl 10 (by decide) q44 rfl (by decide +kernel) rfl rfl (Nat.le_of_ble_eq_true rfl) dX0_begin_75 (fun H locs hP hD hS => ?_)
            have hP : va_P D vwCl (xw dB ad (P ||| (1 <<< i)) sz n0 n1 n2 0 fo (upN ln i 1) (upN wt i k) (upN sy (6 * i) j) qu ha tc) H := hP
            have hD : va_D A (xw dB ad (P ||| (1 <<< i)) sz n0 n1 n2 0 fo (upN ln i 1) (upN wt i k) (upN sy (6 * i) j) qu ha tc) := hD
            refine lv_iload_n hx hb dX0_begin_78 rfl (lv_at hl 3 rfl) ?_
            exact rt_wi hx hb hr hlk dX0_begin_79 hK hS (P ||| (1 <<< i), 0, upN ln i 1, upN wt i k, upN sy (6 * i) j) hP hD ⟨Or.inr (Or.inr ⟨j, k, i, hj, by omega, rfl, rfl, ⟨by omega, by simp [c32], hno⟩, rfl, rfl, rfl, rfl, rfl⟩), xS_kn htc⟩
      · refine lv_iconst (v := ((-1))) hx hb dX0_begin_17 (by decide) ?_
        exact rt_wi hx hb hr hlk dX0_begin_18 hK hS (P, kn, ln, wt, sy) hP hD ⟨Or.inl ⟨by rw [show wgF y = false from inF_hi (by have := rg_gt (by decide) c14; omega)]; simp, rfl, rfl, rfl, rfl, rfl, rfl⟩, hS0⟩
set_option maxHeartbeats 4000000 in
/-- extend(w, x) -/
theorem metX0_extend (l : Launch) (D : va_G) (dB : ClassId) (ad : Nat → Nat) (P sz n0 n1 n2 kn fo : Nat) (ln wt sy qu ha tc : Nat → Nat) (w : Int32) (x : Int32) (hI : xI P sz ln wt sy qu) (hS0 : xS P sz ln sy qu tc kn fo) (hsz : Nat) : Met l yX0_extend (ws_ yX0_extend cX0_extend 3 (some .boolean)) (rmN 1 21) (PW D [(dB, .byte)] (xw dB ad P sz n0 n1 n2 kn fo ln wt sy qu ha tc) [.ref (ad 0), .int w, .int x] hsz) (QI D [(dB, .byte)] (fun (r : Int32) (u : Nat × (Nat → Nat) × (Nat → Nat)) => exR (fun j => P.testBit j) ln w x r (u.1 = kn ∧ u.2.1 = ln ∧ u.2.2 = sy) (fun j k => u.2.1 = upN ln j (ln j + 1) ∧ u.2.2 = upN sy (6 * j + ln j) k) ∧ xS P sz u.2.1 u.2.2 qu tc u.1 fo) (fun u : Nat × (Nat → Nat) × (Nat → Nat) => (xw dB ad P sz n0 n1 n2 u.1 fo u.2.1 wt u.2.2 qu ha tc)) (va_A (xw dB ad P sz n0 n1 n2 kn fo ln wt sy qu ha tc) hsz)) 0 0 (va_A (xw dB ad P sz n0 n1 n2 kn fo ln wt sy qu ha tc) hsz) := by
  refine en_wi (by decide) (Nat.le_of_ble_eq_true rfl) ?_
  intro p e s m below meth c F hr hlk A hA hK hP hD hS ls hl
  have hx := F.1
  have hb := F.2.1
  have F : CallFix p m c cX0_extend 3 s [.ref (ad 0), .int w, .int x].toArray lw_all RX0 := F
  have hl : lv_has ls 3 [(0, .ref (ad 0)), (1, .int w), (2, .int x)] := hl
  obtain ⟨hI1, hs6, hln, hwt, hsy, hqu⟩ := id hI
  obtain ⟨hk1, htc, hco⟩ := id hS0
  refine lv_aload_n hx hb dX0_extend_0 rfl (lv_at hl 0 rfl) ?_
  refine lv_iload_n hx hb dX0_extend_1 rfl (lv_at hl 1 rfl) ?_
  refine nc_ro (n := 1) (q0 := 0) (ci := 0) F (metX0_has l D dB ad P sz n0 n1 n2 kn fo ln wt sy qu ha tc w hI.1) (lw_V q82 q84 qs0 q24 q85) ⟨rfl, rfl⟩ (by decide +kernel) ⟨by decide, by decide⟩ hK hP rfl rfl rfl rfl hl rfl (Nat.le_of_ble_eq_true rfl) dX0_extend_2 ⟨by decide, by decide⟩ (fun r2 hr2 => ?_)
  have hr2 : r2 = (nI (Bool.toNat (hsF P w))) := hr2
  subst hr2
  refine nv_beq (tgt := 26) hx hb dX0_extend_5 (by decide) (fun c5 => ?_) (fun c5 => ?_)
  · refine lv_iconst (v := (nI 0)) hx hb dX0_extend_26 (by decide) ?_
    exact rt_wz hx hb hr hlk dX0_extend_27 rfl hK hS (kn, ln, sy) hP hD ⟨Or.inr ⟨fun j k hj hk e1 e2 h => (by rw [e1, hsF_n hj] at c5; exact absurd (c5.symm.trans h) (by decide)), rfl, rfl, rfl, rfl⟩, hS0⟩
  · refine lv_iload_n hx hb dX0_extend_8 rfl (lv_at hl 2 rfl) ?_
    refine nc_st (n := 1) F (metX0_isSymbol l x ) (lw_S q79 q80 q24 q81) ⟨rfl, rfl⟩ (by decide +kernel) ⟨by decide, by decide⟩ rfl hl rfl (Nat.le_of_ble_eq_true rfl) dX0_extend_9 ⟨by decide, by decide⟩ (fun r9 hr9 => ?_)
    have hr9 : r9 = (nI (Bool.toNat (smF x))) := hr9
    subst hr9
    refine nv_beq (tgt := 26) hx hb dX0_extend_12 (by decide) (fun c12 => ?_) (fun c12 => ?_)
    · refine lv_iconst (v := (nI 0)) hx hb dX0_extend_26 (by decide) ?_
      exact rt_wz hx hb hr hlk dX0_extend_27 rfl hK hS (kn, ln, sy) hP hD ⟨Or.inr ⟨fun j k hj hk e1 e2 h => (by rw [e2, smF_n hk] at c12; cases c12), rfl, rfl, rfl, rfl⟩, hS0⟩
    · obtain ⟨j, hj, rfl, hpj⟩ := inF_ex c5
      obtain ⟨k, hk, rfl, -⟩ := inF_ex c12
      refine lv_aload_n hx hb dX0_extend_15 rfl (lv_at hl 0 rfl) ?_
      refine gx F hK hP rfl 1 (by decide) q35 rfl dX0_extend_16 ?_
      refine lv_iload_n hx hb dX0_extend_19 rfl (lv_at hl 1 rfl) ?_
      refine nv_bald (f := ln) (n := 10) hx hb hK hP 1 0 rfl rfl (by omega) (by decide) dX0_extend_20 ?_
      have hbd1 := hln j
      refine lv_bipush (v := (nI 6)) hx hb dX0_extend_21 (by decide) ?_
      refine nv_clt (tgt := 28) hx hb dX0_extend_23 (by decide) (by omega) (by omega) (fun c23 => ?_) (fun c23 => ?_)
      · refine lv_aload_n hx hb dX0_extend_28 rfl (lv_at hl 0 rfl) ?_
        refine gx F hK hP rfl 3 (by decide) q37 rfl dX0_extend_29 ?_
        refine lv_iload_n hx hb dX0_extend_32 rfl (lv_at hl 1 rfl) ?_
        refine lv_bipush (v := (nI 6)) hx hb dX0_extend_33 (by decide) ?_
        refine nv_imulc hx hb dX0_extend_35 ?_
        refine lv_aload_n hx hb dX0_extend_36 rfl (lv_at hl 0 rfl) ?_
        refine gx F hK hP rfl 1 (by decide) q35 rfl dX0_extend_37 ?_
        refine lv_iload_n hx hb dX0_extend_40 rfl (lv_at hl 1 rfl) ?_
        refine nv_bald (f := ln) (n := 10) hx hb hK hP 1 0 rfl rfl (by omega) (by decide) dX0_extend_41 ?_
        have hbd2 := hln j
        refine nv_iadd hx hb dX0_extend_42 ?_
        refine lv_iload_n hx hb dX0_extend_43 rfl (lv_at hl 2 rfl) ?_
        refine lv_i2b (v := nI k) hx hb dX0_extend_44 (nv_b _ (by omega)) ?_
        refine nv_bast (f := sy) (n := 60) (v := k) hx hb hK hP hD hS 3 0 rfl rfl (by omega) (by decide) (by omega) dX0_extend_45 (fun H locs hP hD hS => ?_)
        have hP : va_P D vwCl (xw dB ad P sz n0 n1 n2 kn fo ln wt (upN sy ((6 * j) + (ln j)) k) qu ha tc) H := hP
        have hD : va_D A (xw dB ad P sz n0 n1 n2 kn fo ln wt (upN sy ((6 * j) + (ln j)) k) qu ha tc) := hD
        refine lv_aload_n hx hb dX0_extend_46 rfl (lv_at hl 0 rfl) ?_
        refine gx F hK hP rfl 1 (by decide) q35 rfl dX0_extend_47 ?_
        refine lv_iload_n hx hb dX0_extend_50 rfl (lv_at hl 1 rfl) ?_
        refine lv_dup2_11 hx hb dX0_extend_51 rfl rfl ?_
        refine nv_bald (f := ln) (n := 10) hx hb hK hP 1 0 rfl rfl (by omega) (by decide) dX0_extend_52 ?_
        have hbd3 := hln j
        refine lv_iconst (v := (nI 1)) hx hb dX0_extend_53 (by decide) ?_
        refine nv_iadd hx hb dX0_extend_54 ?_
        refine lv_i2b (v := nI ((ln j) + 1)) hx hb dX0_extend_55 (nv_b _ (by omega)) ?_
        refine nv_bast (f := ln) (n := 10) (v := (ln j) + 1) hx hb hK hP hD hS 1 0 rfl rfl (by omega) (by decide) (by omega) dX0_extend_56 (fun H locs hP hD hS => ?_)
        have hP : va_P D vwCl (xw dB ad P sz n0 n1 n2 kn fo (upN ln j ((ln j) + 1)) wt (upN sy ((6 * j) + (ln j)) k) qu ha tc) H := hP
        have hD : va_D A (xw dB ad P sz n0 n1 n2 kn fo (upN ln j ((ln j) + 1)) wt (upN sy ((6 * j) + (ln j)) k) qu ha tc) := hD
        refine lv_aload_n hx hb dX0_extend_57 rfl (lv_at hl 0 rfl) ?_
        refine lv_iconst (v := (nI 0)) hx hb dX0_extend_58 (by decide) ?_
        refine px (ty := .boolean) F hK hP hD hS rfl 10 (by decide) q44 rfl (by decide +kernel) rfl rfl (Nat.le_of_ble_eq_true rfl) dX0_extend_59 (fun H locs hP hD hS => ?_)
        have hP : va_P D vwCl (xw dB ad P sz n0 n1 n2 0 fo (upN ln j ((ln j) + 1)) wt (upN sy ((6 * j) + (ln j)) k) qu ha tc) H := hP
        have hD : va_D A (xw dB ad P sz n0 n1 n2 0 fo (upN ln j ((ln j) + 1)) wt (upN sy ((6 * j) + (ln j)) k) qu ha tc) := hD
        refine lv_iconst (v := (nI 1)) hx hb dX0_extend_62 (by decide) ?_
        exact rt_wz hx hb hr hlk dX0_extend_63 rfl hK hS (0, upN ln j ((ln j) + 1), upN sy ((6 * j) + (ln j)) k) hP hD ⟨Or.inl ⟨j, k, hj, hk, rfl, rfl, hpj, c23, rfl, rfl, rfl⟩, xS_kn htc⟩
      · refine lv_iconst (v := (nI 0)) hx hb dX0_extend_26 (by decide) ?_
        exact rt_wz hx hb hr hlk dX0_extend_27 rfl hK hS (kn, ln, sy) hP hD ⟨Or.inr ⟨fun j' k' hj' hk' e1 e2 h => (by rw [← nI_in10 hj hj' e1]; exact c23), rfl, rfl, rfl, rfl⟩, hS0⟩
set_option maxHeartbeats 4000000 in
/-- remove(w) -/
theorem metX0_remove (l : Launch) (D : va_G) (dB : ClassId) (ad : Nat → Nat) (P sz n0 n1 n2 kn fo : Nat) (ln wt sy qu ha tc : Nat → Nat) (w : Int32) (hI : xI P sz ln wt sy qu) (hS0 : xS P sz ln sy qu tc kn fo) (hsz : Nat) : Met l yX0_remove (ws_ yX0_remove cX0_remove 2 (some .boolean)) (rmN 1 21) (PW D [(dB, .byte)] (xw dB ad P sz n0 n1 n2 kn fo ln wt sy qu ha tc) [.ref (ad 0), .int w] hsz) (QI D [(dB, .byte)] (fun (r : Int32) (u : Nat × Nat) => rmR (fun j => P.testBit j) w r (u.1 = P ∧ u.2 = kn) (fun j => u.1 = P &&& ((1 <<< j) ^^^ 4294967295)) ∧ xS u.1 sz ln sy qu tc u.2 fo) (fun u : Nat × Nat => (xw dB ad u.1 sz n0 n1 n2 u.2 fo ln wt sy qu ha tc)) (va_A (xw dB ad P sz n0 n1 n2 kn fo ln wt sy qu ha tc) hsz)) 0 0 (va_A (xw dB ad P sz n0 n1 n2 kn fo ln wt sy qu ha tc) hsz) := by
  refine en_wi (by decide) (Nat.le_of_ble_eq_true rfl) ?_
  intro p e s m below meth c F hr hlk A hA hK hP hD hS ls hl
  have hx := F.1
  have hb := F.2.1
  have F : CallFix p m c cX0_remove 2 s [.ref (ad 0), .int w].toArray lw_all RX0 := F
  have hl : lv_has ls 2 [(0, .ref (ad 0)), (1, .int w)] := hl
  obtain ⟨hI1, hs6, hln, hwt, hsy, hqu⟩ := id hI
  obtain ⟨hk1, htc, hco⟩ := id hS0
  refine lv_aload_n hx hb dX0_remove_0 rfl (lv_at hl 0 rfl) ?_
  refine lv_iload_n hx hb dX0_remove_1 rfl (lv_at hl 1 rfl) ?_
  refine nc_ro (n := 1) (q0 := 0) (ci := 0) F (metX0_has l D dB ad P sz n0 n1 n2 kn fo ln wt sy qu ha tc w hI.1) (lw_V q82 q84 qs0 q24 q85) ⟨rfl, rfl⟩ (by decide +kernel) ⟨by decide, by decide⟩ hK hP rfl rfl rfl rfl hl rfl (Nat.le_of_ble_eq_true rfl) dX0_remove_2 ⟨by decide, by decide⟩ (fun r2 hr2 => ?_)
  have hr2 : r2 = (nI (Bool.toNat (hsF P w))) := hr2
  subst hr2
  refine nv_bne (tgt := 10) hx hb dX0_remove_5 (by decide) (fun c5 => ?_) (fun c5 => ?_)
  · obtain ⟨j, hj, rfl, hpj⟩ := inF_ex c5
    refine lv_aload_n hx hb dX0_remove_10 rfl (lv_at hl 0 rfl) ?_
    refine lv_dup hx hb dX0_remove_11 rfl ?_
    refine gx F hK hP rfl 0 (by decide) q34 rfl dX0_remove_12 ?_
    refine lv_iconst (v := (nI 1)) hx hb dX0_remove_15 (by decide) ?_
    refine lv_iload_n hx hb dX0_remove_16 rfl (lv_at hl 1 rfl) ?_
    refine nv_ishl hx hb (by omega) dX0_remove_17 ?_
    refine lv_iconst (v := (nI 4294967295)) hx hb dX0_remove_18 (by decide) ?_
    refine nv_ixor hx hb dX0_remove_19 ?_
    refine nv_iand hx hb dX0_remove_20 ?_
    refine px (ty := .int) F hK hP hD hS rfl 0 (by decide) q34 rfl (by decide +kernel) rfl rfl (Nat.le_of_ble_eq_true rfl) dX0_remove_21 (fun H locs hP hD hS => ?_)
    have hP : va_P D vwCl (xw dB ad (P &&& ((1 <<< j) ^^^ 4294967295)) sz n0 n1 n2 kn fo ln wt sy qu ha tc) H := hP
    have hD : va_D A (xw dB ad (P &&& ((1 <<< j) ^^^ 4294967295)) sz n0 n1 n2 kn fo ln wt sy qu ha tc) := hD
    refine lv_aload_n hx hb dX0_remove_24 rfl (lv_at hl 0 rfl) ?_
    refine lv_iconst (v := (nI 0)) hx hb dX0_remove_25 (by decide) ?_
    refine px (ty := .boolean) F hK hP hD hS rfl 10 (by decide) q44 rfl (by decide +kernel) rfl rfl (Nat.le_of_ble_eq_true rfl) dX0_remove_26 (fun H locs hP hD hS => ?_)
    have hP : va_P D vwCl (xw dB ad (P &&& ((1 <<< j) ^^^ 4294967295)) sz n0 n1 n2 0 fo ln wt sy qu ha tc) H := hP
    have hD : va_D A (xw dB ad (P &&& ((1 <<< j) ^^^ 4294967295)) sz n0 n1 n2 0 fo ln wt sy qu ha tc) := hD
    refine lv_iconst (v := (nI 1)) hx hb dX0_remove_29 (by decide) ?_
    exact rt_wz hx hb hr hlk dX0_remove_30 rfl hK hS (P &&& ((1 <<< j) ^^^ 4294967295), 0) hP hD ⟨Or.inl ⟨j, hj, rfl, hpj, rfl, rfl⟩, xS_kn htc⟩
  · refine lv_iconst (v := (nI 0)) hx hb dX0_remove_8 (by decide) ?_
    exact rt_wz hx hb hr hlk dX0_remove_9 rfl hK hS (P, kn) hP hD ⟨Or.inr ⟨fun j hj e1 => (by rw [e1, hsF_n hj] at c5; exact c5), rfl, rfl, rfl⟩, hS0⟩
set_option maxHeartbeats 4000000 in
/-- weigh(w, y) -/
theorem metX0_weigh (l : Launch) (D : va_G) (dB : ClassId) (ad : Nat → Nat) (P sz n0 n1 n2 kn fo : Nat) (ln wt sy qu ha tc : Nat → Nat) (w : Int32) (y : Int32) (hI : xI P sz ln wt sy qu) (hS0 : xS P sz ln sy qu tc kn fo) (hsz : Nat) : Met l yX0_weigh (ws_ yX0_weigh cX0_weigh 3 (some .boolean)) (rmN 1 21) (PW D [(dB, .byte)] (xw dB ad P sz n0 n1 n2 kn fo ln wt sy qu ha tc) [.ref (ad 0), .int w, .int y] hsz) (QI D [(dB, .byte)] (fun (r : Int32) (u : (Nat → Nat)) => wgR (fun j => P.testBit j) w y r (u = wt) (fun j k => u = upN wt j k)) (fun u : (Nat → Nat) => (xw dB ad P sz n0 n1 n2 kn fo ln u sy qu ha tc)) (va_A (xw dB ad P sz n0 n1 n2 kn fo ln wt sy qu ha tc) hsz)) 0 0 (va_A (xw dB ad P sz n0 n1 n2 kn fo ln wt sy qu ha tc) hsz) := by
  refine en_wi (by decide) (Nat.le_of_ble_eq_true rfl) ?_
  intro p e s m below meth c F hr hlk A hA hK hP hD hS ls hl
  have hx := F.1
  have hb := F.2.1
  have F : CallFix p m c cX0_weigh 3 s [.ref (ad 0), .int w, .int y].toArray lw_all RX0 := F
  have hl : lv_has ls 3 [(0, .ref (ad 0)), (1, .int w), (2, .int y)] := hl
  obtain ⟨hI1, hs6, hln, hwt, hsy, hqu⟩ := id hI
  obtain ⟨hk1, htc, hco⟩ := id hS0
  refine lv_aload_n hx hb dX0_weigh_0 rfl (lv_at hl 0 rfl) ?_
  refine lv_iload_n hx hb dX0_weigh_1 rfl (lv_at hl 1 rfl) ?_
  refine nc_ro (n := 1) (q0 := 0) (ci := 0) F (metX0_has l D dB ad P sz n0 n1 n2 kn fo ln wt sy qu ha tc w hI.1) (lw_V q82 q84 qs0 q24 q85) ⟨rfl, rfl⟩ (by decide +kernel) ⟨by decide, by decide⟩ hK hP rfl rfl rfl rfl hl rfl (Nat.le_of_ble_eq_true rfl) dX0_weigh_2 ⟨by decide, by decide⟩ (fun r2 hr2 => ?_)
  have hr2 : r2 = (nI (Bool.toNat (hsF P w))) := hr2
  subst hr2
  refine nv_beq (tgt := 18) hx hb dX0_weigh_5 (by decide) (fun c5 => ?_) (fun c5 => ?_)
  · refine lv_iconst (v := (nI 0)) hx hb dX0_weigh_18 (by decide) ?_
    exact rt_wz hx hb hr hlk dX0_weigh_19 rfl hK hS wt hP hD (Or.inr ⟨fun j k hj hk e1 e2 => (by rw [e1, hsF_n hj] at c5; exact c5), rfl, rfl⟩)
  · refine lv_iload_n hx hb dX0_weigh_8 rfl (lv_at hl 2 rfl) ?_
    refine lv_if_lt (tgt := 18) hx hb dX0_weigh_9 (by decide) (fun c9 => ?_) (fun c9 => ?_)
    · refine lv_iconst (v := (nI 0)) hx hb dX0_weigh_18 (by decide) ?_
      exact rt_wz hx hb hr hlk dX0_weigh_19 rfl hK hS wt hP hD (Or.inr ⟨fun j k hj hk e1 e2 => (by rw [e2] at c9; exact absurd c9 (nI_pos (by omega))), rfl, rfl⟩)
    · refine lv_iload_n hx hb dX0_weigh_12 rfl (lv_at hl 2 rfl) ?_
      refine lv_bipush (v := (nI 9)) hx hb dX0_weigh_13 (by decide) ?_
      refine lv_icmp_le (tgt := 20) hx hb dX0_weigh_15 (by decide) (fun c15 => ?_) (fun c15 => ?_)
      · obtain ⟨j, hj, rfl, hpj⟩ := inF_ex c5
        obtain ⟨k, hk, rfl⟩ := rg_le (by decide) c9 c15
        refine lv_aload_n hx hb dX0_weigh_20 rfl (lv_at hl 0 rfl) ?_
        refine gx F hK hP rfl 2 (by decide) q36 rfl dX0_weigh_21 ?_
        refine lv_iload_n hx hb dX0_weigh_24 rfl (lv_at hl 1 rfl) ?_
        refine lv_iload_n hx hb dX0_weigh_25 rfl (lv_at hl 2 rfl) ?_
        refine lv_i2b (v := nI k) hx hb dX0_weigh_26 (nv_b _ (by omega)) ?_
        refine nv_bast (f := wt) (n := 10) (v := k) hx hb hK hP hD hS 2 0 rfl rfl (by omega) (by decide) (by omega) dX0_weigh_27 (fun H locs hP hD hS => ?_)
        have hP : va_P D vwCl (xw dB ad P sz n0 n1 n2 kn fo ln (upN wt j k) sy qu ha tc) H := hP
        have hD : va_D A (xw dB ad P sz n0 n1 n2 kn fo ln (upN wt j k) sy qu ha tc) := hD
        refine lv_iconst (v := (nI 1)) hx hb dX0_weigh_28 (by decide) ?_
        exact rt_wz hx hb hr hlk dX0_weigh_29 rfl hK hS (upN wt j k) hP hD (Or.inl ⟨j, k, hj, by omega, rfl, rfl, hpj, rfl, rfl⟩)
      · refine lv_iconst (v := (nI 0)) hx hb dX0_weigh_18 (by decide) ?_
        exact rt_wz hx hb hr hlk dX0_weigh_19 rfl hK hS wt hP hD (Or.inr ⟨fun j k hj hk e1 e2 => (by rw [e2] at c15; exact absurd ((nI_leI (by omega) (by omega)).mpr (by omega)) c15), rfl, rfl⟩)
set_option maxHeartbeats 4000000 in
/-- type(x) -/
theorem metX0_type (l : Launch) (D : va_G) (dB : ClassId) (ad : Nat → Nat) (P sz n0 n1 n2 kn fo : Nat) (ln wt sy qu ha tc : Nat → Nat) (x : Int32) (hI : xI P sz ln wt sy qu) (hS0 : xS P sz ln sy qu tc kn fo) (hsz : Nat) : Met l yX0_type (ws_ yX0_type cX0_type 2 (some .int)) (rmN 6 134) (PW D [(dB, .byte)] (xw dB ad P sz n0 n1 n2 kn fo ln wt sy qu ha tc) [.ref (ad 0), .int x] hsz) (QI D [(dB, .byte)] (fun (r : Int32) (u : Nat × Nat × Nat × Nat × Nat × Nat × (Nat → Nat) × (Nat → Nat) × (Nat → Nat)) => tyR (cnX P ln sy) sz qu x u.1 u.2.2.2.2.2.2.1 r ∧ xS P u.1 ln sy u.2.2.2.2.2.2.1 u.2.2.2.2.2.2.2.2 u.2.2.2.2.1 u.2.2.2.2.2.1) (fun u : Nat × Nat × Nat × Nat × Nat × Nat × (Nat → Nat) × (Nat → Nat) × (Nat → Nat) => (xw dB ad P u.1 u.2.1 u.2.2.1 u.2.2.2.1 u.2.2.2.2.1 u.2.2.2.2.2.1 ln wt sy u.2.2.2.2.2.2.1 u.2.2.2.2.2.2.2.1 u.2.2.2.2.2.2.2.2)) (va_A (xw dB ad P sz n0 n1 n2 kn fo ln wt sy qu ha tc) hsz)) 0 0 (va_A (xw dB ad P sz n0 n1 n2 kn fo ln wt sy qu ha tc) hsz) := by
  refine en_wi (by decide) (Nat.le_of_ble_eq_true rfl) ?_
  intro p e s m below meth c F hr hlk A hA hK hP hD hS ls hl
  have hx := F.1
  have hb := F.2.1
  have F : CallFix p m c cX0_type 2 s [.ref (ad 0), .int x].toArray lw_all RX0 := F
  have hl : lv_has ls 2 [(0, .ref (ad 0)), (1, .int x)] := hl
  obtain ⟨hI1, hs6, hln, hwt, hsy, hqu⟩ := id hI
  obtain ⟨hk1, htc, hco⟩ := id hS0
  refine lv_iload_n hx hb dX0_type_0 rfl (lv_at hl 1 rfl) ?_
  refine nc_st (n := 1) F (metX0_isSymbol l x ) (lw_S q79 q80 q24 q81) ⟨rfl, rfl⟩ (by decide +kernel) ⟨by decide, by decide⟩ rfl hl rfl (Nat.le_of_ble_eq_true rfl) dX0_type_1 ⟨by decide, by decide⟩ (fun r1 hr1 => ?_)
  have hr1 : r1 = (nI (Bool.toNat (smF x))) := hr1
  subst hr1
  refine nv_bne (tgt := 9) hx hb dX0_type_4 (by decide) (fun c4 => ?_) (fun c4 => ?_)
  · refine lv_aload_n hx hb dX0_type_9 rfl (lv_at hl 0 rfl) ?_
    refine gx F hK hP rfl 5 (by decide) q39 rfl dX0_type_10 ?_
    refine lv_bipush (v := (nI 6)) hx hb dX0_type_13 (by decide) ?_
    refine nv_clt (tgt := 21) hx hb dX0_type_15 (by decide) (by omega) (by omega) (fun c15 => ?_) (fun c15 => ?_)
    · obtain ⟨j, hj, rfl, -⟩ := inF_ex c4
      refine lv_aload_n hx hb dX0_type_21 rfl (lv_at hl 0 rfl) ?_
      refine gx F hK hP rfl 4 (by decide) q38 rfl dX0_type_22 ?_
      refine lv_aload_n hx hb dX0_type_25 rfl (lv_at hl 0 rfl) ?_
      refine gx F hK hP rfl 5 (by decide) q39 rfl dX0_type_26 ?_
      refine lv_iload_n hx hb dX0_type_29 rfl (lv_at hl 1 rfl) ?_
      refine lv_i2b (v := nI j) hx hb dX0_type_30 (nv_b _ (by omega)) ?_
      refine nv_bast (f := qu) (n := 6) (v := j) hx hb hK hP hD hS 4 0 rfl rfl (by omega) (by decide) (by omega) dX0_type_31 (fun H locs hP hD hS => ?_)
      have hP : va_P D vwCl (xw dB ad P sz n0 n1 n2 kn fo ln wt sy (upN qu sz j) ha tc) H := hP
      have hD : va_D A (xw dB ad P sz n0 n1 n2 kn fo ln wt sy (upN qu sz j) ha tc) := hD
      refine lv_aload_n hx hb dX0_type_32 rfl (lv_at hl 0 rfl) ?_
      refine lv_dup hx hb dX0_type_33 rfl ?_
      refine gx F hK hP rfl 5 (by decide) q39 rfl dX0_type_34 ?_
      refine lv_iconst (v := (nI 1)) hx hb dX0_type_37 (by decide) ?_
      refine nv_iadd hx hb dX0_type_38 ?_
      refine px (ty := .int) F hK hP hD hS rfl 5 (by decide) q39 rfl (by decide +kernel) rfl rfl (Nat.le_of_ble_eq_true rfl) dX0_type_39 (fun H locs hP hD hS => ?_)
      have hP : va_P D vwCl (xw dB ad P (sz + 1) n0 n1 n2 kn fo ln wt sy (upN qu sz j) ha tc) H := hP
      have hD : va_D A (xw dB ad P (sz + 1) n0 n1 n2 kn fo ln wt sy (upN qu sz j) ha tc) := hD
      refine lv_aload_n hx hb dX0_type_42 rfl (lv_at hl 0 rfl) ?_
      refine lv_iconst (v := (nI 0)) hx hb dX0_type_43 (by decide) ?_
      refine px (ty := .boolean) F hK hP hD hS rfl 10 (by decide) q44 rfl (by decide +kernel) rfl rfl (Nat.le_of_ble_eq_true rfl) dX0_type_44 (fun H locs hP hD hS => ?_)
      have hP : va_P D vwCl (xw dB ad P (sz + 1) n0 n1 n2 0 fo ln wt sy (upN qu sz j) ha tc) H := hP
      have hD : va_D A (xw dB ad P (sz + 1) n0 n1 n2 0 fo ln wt sy (upN qu sz j) ha tc) := hD
      refine lv_aload_n hx hb dX0_type_47 rfl (lv_at hl 0 rfl) ?_
      refine nc_wi (n := 0) (q0 := 0) (ci := 0) (wr := []) F (metX0_foundCount l D dB ad P (sz + 1) n0 n1 n2 0 fo ln wt sy (upN qu sz j) ha tc  ⟨hI1, by omega, hln, hwt, hsy, upN_lt hqu hj⟩ (xS_kn htc) _) (lw_V q106 q108 qs1 q24 q109) ⟨rfl, rfl⟩ (by decide +kernel) ⟨by decide, by decide⟩ hK hP hD hS hA [0, 1, 2, 3, 4, 5, 6] [] rfl rfl rfl rfl rfl (by decide) rfl rfl rfl rfl hl rfl (Nat.le_of_ble_eq_true rfl) dX0_type_48 ⟨by decide, by decide⟩ (fun r48 u H locs hr48o hP hD hS => ?_)
      obtain ⟨n0_1, n1_1, n2_1, kn_1, fo_1, ha_1, tc_1⟩ := u
      have hP : va_P D vwCl (xw dB ad P (sz + 1) n0_1 n1_1 n2_1 kn_1 fo_1 ln wt sy (upN qu sz j) ha_1 tc_1) H := hP
      have hD : va_D A (xw dB ad P (sz + 1) n0_1 n1_1 n2_1 kn_1 fo_1 ln wt sy (upN qu sz j) ha_1 tc_1) := hD
      have hr48 : r48 = (nI (cntOf (fdX P (sz + 1) ln sy (upN qu sz j)) 10)) ∧ (xS P (sz + 1) ln sy (upN qu sz j) tc_1 kn_1 fo_1) := hr48o
      obtain ⟨hr48e, hr48⟩ := hr48
      subst hr48e
      exact rt_wi hx hb hr hlk dX0_type_51 hK hS (sz + 1, n0_1, n1_1, n2_1, kn_1, fo_1, upN qu sz j, ha_1, tc_1) hP hD ⟨Or.inr (Or.inr ⟨j, hj, rfl, c15, rfl, rfl, rfl⟩), hr48⟩
    · refine lv_bipush (v := ((-2))) hx hb dX0_type_18 (by decide) ?_
      exact rt_wi hx hb hr hlk dX0_type_20 hK hS (sz, n0, n1, n2, kn, fo, qu, ha, tc) hP hD ⟨Or.inr (Or.inl ⟨c4, c15, rfl, rfl, rfl⟩), hS0⟩
  · refine lv_iconst (v := ((-1))) hx hb dX0_type_7 (by decide) ?_
    exact rt_wi hx hb hr hlk dX0_type_8 hK hS (sz, n0, n1, n2, kn, fo, qu, ha, tc) hP hD ⟨Or.inl ⟨c4, rfl, rfl, rfl⟩, hS0⟩
set_option maxHeartbeats 4000000 in
/-- rub() -/
theorem metX0_rub (l : Launch) (D : va_G) (dB : ClassId) (ad : Nat → Nat) (P sz n0 n1 n2 kn fo : Nat) (ln wt sy qu ha tc : Nat → Nat)  (hI : xI P sz ln wt sy qu) (hS0 : xS P sz ln sy qu tc kn fo) (hsz : Nat) : Met l yX0_rub (ws_ yX0_rub cX0_rub 1 (some .int)) (rmN 0 0) (PW D [(dB, .byte)] (xw dB ad P sz n0 n1 n2 kn fo ln wt sy qu ha tc) [.ref (ad 0)] hsz) (QI D [(dB, .byte)] (fun (r : Int32) (u : Nat × Nat) => rbR sz qu u.1 r ∧ xS P u.1 ln sy qu tc u.2 fo) (fun u : Nat × Nat => (xw dB ad P u.1 n0 n1 n2 u.2 fo ln wt sy qu ha tc)) (va_A (xw dB ad P sz n0 n1 n2 kn fo ln wt sy qu ha tc) hsz)) 0 0 (va_A (xw dB ad P sz n0 n1 n2 kn fo ln wt sy qu ha tc) hsz) := by
  refine en_wi (by decide) (Nat.le_of_ble_eq_true rfl) ?_
  intro p e s m below meth c F hr hlk A hA hK hP hD hS ls hl
  have hx := F.1
  have hb := F.2.1
  have F : CallFix p m c cX0_rub 1 s [.ref (ad 0)].toArray lw_all RX0 := F
  have hl : lv_has ls 1 [(0, .ref (ad 0))] := hl
  obtain ⟨hI1, hs6, hln, hwt, hsy, hqu⟩ := id hI
  obtain ⟨hk1, htc, hco⟩ := id hS0
  refine lv_aload_n hx hb dX0_rub_0 rfl (lv_at hl 0 rfl) ?_
  refine gx F hK hP rfl 5 (by decide) q39 rfl dX0_rub_1 ?_
  refine nv_zne (tgt := 9) hx hb dX0_rub_4 (by decide) (by omega) (fun c4 => ?_) (fun c4 => ?_)
  · refine lv_aload_n hx hb dX0_rub_9 rfl (lv_at hl 0 rfl) ?_
    refine lv_dup hx hb dX0_rub_10 rfl ?_
    refine gx F hK hP rfl 5 (by decide) q39 rfl dX0_rub_11 ?_
    refine lv_iconst (v := (nI 1)) hx hb dX0_rub_14 (by decide) ?_
    refine nv_isub hx hb (by omega) dX0_rub_15 ?_
    refine px (ty := .int) F hK hP hD hS rfl 5 (by decide) q39 rfl (by decide +kernel) rfl rfl (Nat.le_of_ble_eq_true rfl) dX0_rub_16 (fun H locs hP hD hS => ?_)
    have hP : va_P D vwCl (xw dB ad P (sz - 1) n0 n1 n2 kn fo ln wt sy qu ha tc) H := hP
    have hD : va_D A (xw dB ad P (sz - 1) n0 n1 n2 kn fo ln wt sy qu ha tc) := hD
    refine lv_aload_n hx hb dX0_rub_19 rfl (lv_at hl 0 rfl) ?_
    refine lv_iconst (v := (nI 0)) hx hb dX0_rub_20 (by decide) ?_
    refine px (ty := .boolean) F hK hP hD hS rfl 10 (by decide) q44 rfl (by decide +kernel) rfl rfl (Nat.le_of_ble_eq_true rfl) dX0_rub_21 (fun H locs hP hD hS => ?_)
    have hP : va_P D vwCl (xw dB ad P (sz - 1) n0 n1 n2 0 fo ln wt sy qu ha tc) H := hP
    have hD : va_D A (xw dB ad P (sz - 1) n0 n1 n2 0 fo ln wt sy qu ha tc) := hD
    refine lv_aload_n hx hb dX0_rub_24 rfl (lv_at hl 0 rfl) ?_
    refine gx F hK hP rfl 4 (by decide) q38 rfl dX0_rub_25 ?_
    refine lv_aload_n hx hb dX0_rub_28 rfl (lv_at hl 0 rfl) ?_
    refine gx F hK hP rfl 5 (by decide) q39 rfl dX0_rub_29 ?_
    refine nv_bald (f := qu) (n := 6) hx hb hK hP 4 0 rfl rfl (by omega) (by decide) dX0_rub_32 ?_
    have hbd1 := hqu (sz - 1)
    exact rt_wi hx hb hr hlk dX0_rub_33 hK hS (sz - 1, 0) hP hD ⟨Or.inr ⟨by omega, rfl, rfl⟩, xS_kn htc⟩
  · refine lv_iconst (v := ((-1))) hx hb dX0_rub_7 (by decide) ?_
    exact rt_wi hx hb hr hlk dX0_rub_8 hK hS (sz, kn) hP hD ⟨Or.inl ⟨c4, rfl, c4⟩, hS0⟩
set_option maxHeartbeats 4000000 in
/-- hints() -/
theorem metX0_hints (l : Launch) (D : va_G) (dB : ClassId) (ad : Nat → Nat) (P sz n0 n1 n2 kn fo : Nat) (ln wt sy qu ha tc : Nat → Nat)  (hI : xI P sz ln wt sy qu) (hS0 : xS P sz ln sy qu tc kn fo) (hsz : Nat) : Met l yX0_hints (ws_ yX0_hints cX0_hints 4 (some .int)) (rmN 7 155) (PW D [(dB, .byte)] (xw dB ad P sz n0 n1 n2 kn fo ln wt sy qu ha tc) [.ref (ad 0)] hsz) (QI D [(dB, .byte)] (fun (r : Int32) (u : Nat × Nat × Nat × Nat × Nat × Nat × (Nat → Nat) × (Nat → Nat) × (Nat → Nat)) => r = (nI (hnF (fun q => decide (0 < cnX P ln sy (sz + 1) q)) qu sz)) ∧ u.1 = sz ∧ u.2.2.2.2.2.2.1 = hnQ qu sz ∧ xS P u.1 ln sy u.2.2.2.2.2.2.1 u.2.2.2.2.2.2.2.2 u.2.2.2.2.1 u.2.2.2.2.2.1) (fun u : Nat × Nat × Nat × Nat × Nat × Nat × (Nat → Nat) × (Nat → Nat) × (Nat → Nat) => (xw dB ad P u.1 u.2.1 u.2.2.1 u.2.2.2.1 u.2.2.2.2.1 u.2.2.2.2.2.1 ln wt sy u.2.2.2.2.2.2.1 u.2.2.2.2.2.2.2.1 u.2.2.2.2.2.2.2.2)) (va_A (xw dB ad P sz n0 n1 n2 kn fo ln wt sy qu ha tc) hsz)) 0 0 (va_A (xw dB ad P sz n0 n1 n2 kn fo ln wt sy qu ha tc) hsz) := by
  refine en_wi (by decide) (Nat.le_of_ble_eq_true rfl) ?_
  intro p e s m below meth c F hr hlk A hA hK hP hD hS ls hl
  have hx := F.1
  have hb := F.2.1
  have F : CallFix p m c cX0_hints 4 s [.ref (ad 0)].toArray lw_all RX0 := F
  have hl : lv_has ls 4 [(0, .ref (ad 0))] := hl
  obtain ⟨hI1, hs6, hln, hwt, hsy, hqu⟩ := id hI
  obtain ⟨hk1, htc, hco⟩ := id hS0
  refine lv_iconst (v := (nI 0)) hx hb dX0_hints_0 (by decide) ?_
  refine lv_istore_n (lv' := [(1, .int (nI 0)), (0, .ref (ad 0))]) hx hb dX0_hints_1 rfl hl (by decide) rfl (fun ls hl => ?_)
  refine lv_iconst (v := (nI 0)) hx hb dX0_hints_2 (by decide) ?_
  refine lv_istore_n (lv' := [(2, .int (nI 0)), (1, .int (nI 0)), (0, .ref (ad 0))]) hx hb dX0_hints_3 rfl hl (by decide) rfl (fun ls hl => ?_)
  refine lp_w11 (I := fun (i : Nat) (g : Nat) (z : Nat) (a0 : Nat) (a1 : Nat) (a2 : Nat) (kk : Nat) (f : Nat) (q : Nat → Nat) (h : Nat → Nat) (t : Nat → Nat) H locs ls => va_P D vwCl (xw dB ad P z a0 a1 a2 kk f ln wt sy q h t) H ∧ va_D A (xw dB ad P z a0 a1 a2 kk f ln wt sy q h t) ∧ va_S A s.heap H locs ∧ lv_has ls 4 [(0, .ref (ad 0)), (1, .int (nI g)), (2, .int (nI i))] ∧ (i ≤ 4) ∧ (z = sz) ∧ (q = hq qu sz i) ∧ (g = setOf (fun s => (fun q => decide (0 < cnX P ln sy (sz + 1) q)) (hq qu sz (s + 1))) i) ∧ (6 ≤ sz → i = 0) ∧ (xS P z ln sy q t kk f)) (μ := fun (i : Nat) (g : Nat) (z : Nat) (a0 : Nat) (a1 : Nat) (a2 : Nat) (kk : Nat) (f : Nat) (q : Nat → Nat) (h : Nat → Nat) (t : Nat → Nat) => 4 - i) ?_ 0 0 sz n0 n1 n2 kn fo qu ha tc _ _ _ ⟨hP, hD, hS, lv_sub hl [2, 1, 0] rfl, (Nat.zero_le _), rfl, rfl, rfl, (fun _ => rfl), hS0⟩
  intro i g z a0 a1 a2 kk f q h t H locs ls hI0 ih4
  obtain ⟨hP, hD, hS, hl, hi, hz, hq0, hg, h6, hxs⟩ := hI0
  have hl : lv_has ls 4 [(0, .ref (ad 0)), (1, .int (nI g)), (2, .int (nI i))] := hl
  have hP : va_P D vwCl (xw dB ad P z a0 a1 a2 kk f ln wt sy q h t) H := hP
  have hD : va_D A (xw dB ad P z a0 a1 a2 kk f ln wt sy q h t) := hD
  have hqq : ∀ j, q j < 4 := by rw [hq0]; exact hq_lt hqu i hi
  refine lv_iload_n hx hb dX0_hints_4 rfl (lv_at hl 2 rfl) ?_
  refine lv_iconst (v := (nI 4)) hx hb dX0_hints_5 (by decide) ?_
  refine nv_cge (tgt := 49) hx hb dX0_hints_6 (by decide) (by omega) (by omega) (fun c6 => ?_) (fun c6 => ?_)
  · refine lv_iload_n hx hb dX0_hints_49 rfl (lv_at hl 1 rfl) ?_
    exact rt_wi hx hb hr hlk dX0_hints_50 hK hS (z, a0, a1, a2, kk, f, q, h, t) hP hD ⟨congrArg nI (hn_t h6 (by omega) hg), hz, hn_tq h6 (by omega) hq0, hxs⟩
  · refine lv_aload_n hx hb dX0_hints_9 rfl (lv_at hl 0 rfl) ?_
    refine gx F hK hP rfl 5 (by decide) q39 rfl dX0_hints_10 ?_
    refine lv_bipush (v := (nI 6)) hx hb dX0_hints_13 (by decide) ?_
    refine nv_cge (tgt := 49) hx hb dX0_hints_15 (by decide) (by omega) (by omega) (fun c15 => ?_) (fun c15 => ?_)
    · refine lv_iload_n hx hb dX0_hints_49 rfl (lv_at hl 1 rfl) ?_
      exact rt_wi hx hb hr hlk dX0_hints_50 hK hS (z, a0, a1, a2, kk, f, q, h, t) hP hD ⟨congrArg nI (hn_f h6 (by omega) hg), hz, hn_fq h6 (by omega) hq0, hxs⟩
    · refine lv_aload_n hx hb dX0_hints_18 rfl (lv_at hl 0 rfl) ?_
      refine lv_iload_n hx hb dX0_hints_19 rfl (lv_at hl 2 rfl) ?_
      refine nc_wi (n := 1) (q0 := 0) (ci := 0) (wr := []) F (metX0_type l D dB ad P z a0 a1 a2 kk f ln wt sy q h t (nI i) ⟨hI1, by omega, hln, hwt, hsy, hqq⟩ hxs _) (lw_V q183 q103 q104 q24 q105) ⟨rfl, rfl⟩ (by decide +kernel) ⟨by decide, by decide⟩ hK hP hD hS hA [0, 1, 2, 3, 4, 5, 6] [] rfl rfl rfl rfl rfl (by decide) rfl rfl rfl rfl hl rfl (Nat.le_of_ble_eq_true rfl) dX0_hints_20 ⟨by decide, by decide⟩ (fun r20 u H locs hr20o hP hD hS => ?_)
      obtain ⟨sz_1, n0_1, n1_1, n2_1, kn_1, fo_1, qu_1, ha_1, tc_1⟩ := u
      have hP : va_P D vwCl (xw dB ad P sz_1 n0_1 n1_1 n2_1 kn_1 fo_1 ln wt sy qu_1 ha_1 tc_1) H := hP
      have hD : va_D A (xw dB ad P sz_1 n0_1 n1_1 n2_1 kn_1 fo_1 ln wt sy qu_1 ha_1 tc_1) := hD
      have hr20 : tyR (cnX P ln sy) z q ((nI i)) sz_1 qu_1 r20 ∧ xS P sz_1 ln sy qu_1 tc_1 kn_1 fo_1 := hr20o
      obtain ⟨hty, hxs1⟩ := hr20
      obtain ⟨es, eq, er⟩ := ty_ok (by omega) c15 hty
      subst er
      refine lv_istore_n (lv' := [(3, .int (nI (cnX P ln sy sz_1 qu_1))), (0, .ref (ad 0)), (1, .int (nI g)), (2, .int (nI i))]) hx hb dX0_hints_23 rfl hl (by decide) rfl (fun ls hl => ?_)
      refine lv_aload_n hx hb dX0_hints_24 rfl (lv_at hl 1 rfl) ?_
      refine nc_wi (n := 0) (q0 := 0) (ci := 0) (wr := []) F (metX0_rub l D dB ad P sz_1 n0_1 n1_1 n2_1 kn_1 fo_1 ln wt sy qu_1 ha_1 tc_1  ⟨hI1, by omega, hln, hwt, hsy, by rw [eq]; exact upN_lt hqq (by omega)⟩ hxs1 _) (lw_V q184 q147 q148 q24 q149) ⟨rfl, rfl⟩ (by decide +kernel) ⟨by decide, by decide⟩ hK hP hD hS hA [0, 1, 2, 3, 4, 5, 6] [] rfl rfl rfl rfl rfl (by decide) rfl rfl rfl rfl hl rfl (Nat.le_of_ble_eq_true rfl) dX0_hints_25 ⟨by decide, by decide⟩ (fun r25 u H locs hr25o hP hD hS => ?_)
      obtain ⟨sz_2, kn_2⟩ := u
      have hP : va_P D vwCl (xw dB ad P sz_2 n0_1 n1_1 n2_1 kn_2 fo_1 ln wt sy qu_1 ha_1 tc_1) H := hP
      have hD : va_D A (xw dB ad P sz_2 n0_1 n1_1 n2_1 kn_2 fo_1 ln wt sy qu_1 ha_1 tc_1) := hD
      have hr25 : rbR sz_1 qu_1 sz_2 r25 ∧ xS P sz_2 ln sy qu_1 tc_1 kn_2 fo_1 := hr25o
      obtain ⟨hrb, hxs2⟩ := hr25
      have hz2 : sz_2 = sz := by rw [rb_ok (by omega) hrb]; omega
      have hq2 : qu_1 = hq qu sz (i + 1) := by rw [eq, hz, hq0]; rfl
      have hc1 : cnX P ln sy sz_1 qu_1 = cnX P ln sy (sz + 1) (hq qu sz (i + 1)) := by rw [es, hz, hq2]
      have hcn : cnX P ln sy sz_1 qu_1 ≤ 10 := cntOf_le _ _
      refine lv_pop hx hb dX0_hints_28 rfl ?_
      refine lv_iload_n hx hb dX0_hints_29 rfl (lv_at hl 2 rfl) ?_
      refine lv_iload_n hx hb dX0_hints_30 rfl (lv_at hl 0 rfl) ?_
      refine nv_zle (tgt := 40) hx hb dX0_hints_31 (by decide) (by omega) (fun c31 => ?_) (fun c31 => ?_)
      · refine lv_iconst (v := (nI 0)) hx hb dX0_hints_40 (by decide) ?_
        refine nv_ior hx hb dX0_hints_41 ?_
        refine lv_istore_n (lv' := [(1, .int (nI (g ||| 0))), (3, .int (nI (cnX P ln sy sz_1 qu_1))), (0, .ref (ad 0)), (2, .int (nI i))]) hx hb dX0_hints_42 rfl hl (by decide) rfl (fun ls hl => ?_)
        refine lv_iinc (v := nI (i + 1)) (lv' := [(2, .int (nI (i + 1))), (1, .int (nI (g ||| 0))), (3, .int (nI (cnX P ln sy sz_1 qu_1))), (0, .ref (ad 0))]) hx hb dX0_hints_43 hl (k := 3) rfl (nv_inc _) (by decide) rfl (fun ls hl => ?_)
        refine lv_goto (tgt := 4) hx hb dX0_hints_46 (by decide) ?_
        exact ih4 (i + 1) (g ||| 0) sz_2 n0_1 n1_1 n2_1 kn_2 fo_1 qu_1 ha_1 tc_1 _ _ _ (by first | omega | (dsimp only; omega)) ⟨hP, hD, hS, lv_sub hl [3, 1, 0] rfl, (by omega), hz2, hq2, (by rw [hg, Nat.or_zero]; exact (setOf_f (decide_eq_false (by rw [hc1] at c31; omega))).symm), (by omega), hxs2⟩
      · refine lv_iconst (v := (nI 1)) hx hb dX0_hints_34 (by decide) ?_
        refine lv_iload_n hx hb dX0_hints_35 rfl (lv_at hl 3 rfl) ?_
        refine nv_ishl hx hb (by omega) dX0_hints_36 ?_
        refine lv_goto (tgt := 41) hx hb dX0_hints_37 (by decide) ?_
        refine nv_ior hx hb dX0_hints_41 ?_
        refine lv_istore_n (lv' := [(1, .int (nI (g ||| (1 <<< i)))), (3, .int (nI (cnX P ln sy sz_1 qu_1))), (0, .ref (ad 0)), (2, .int (nI i))]) hx hb dX0_hints_42 rfl hl (by decide) rfl (fun ls hl => ?_)
        refine lv_iinc (v := nI (i + 1)) (lv' := [(2, .int (nI (i + 1))), (1, .int (nI (g ||| (1 <<< i)))), (3, .int (nI (cnX P ln sy sz_1 qu_1))), (0, .ref (ad 0))]) hx hb dX0_hints_43 hl (k := 3) rfl (nv_inc _) (by decide) rfl (fun ls hl => ?_)
        refine lv_goto (tgt := 4) hx hb dX0_hints_46 (by decide) ?_
        exact ih4 (i + 1) (g ||| (1 <<< i)) sz_2 n0_1 n1_1 n2_1 kn_2 fo_1 qu_1 ha_1 tc_1 _ _ _ (by first | omega | (dsimp only; omega)) ⟨hP, hD, hS, lv_sub hl [3, 1, 0] rfl, (by omega), hz2, hq2, (by rw [hg]; exact (setOf_t (decide_eq_true (by rw [hc1] at c31; omega))).symm), (by omega), hxs2⟩
set_option maxHeartbeats 4000000 in
/-- common() -/
theorem metX0_common (l : Launch) (D : va_G) (dB : ClassId) (ad : Nat → Nat) (P sz n0 n1 n2 kn fo : Nat) (ln wt sy qu ha tc : Nat → Nat)  (hI : xI P sz ln wt sy qu) (hS0 : xS P sz ln sy qu tc kn fo) (hsz : Nat) : Met l yX0_common (ws_ yX0_common cX0_common 4 (some .int)) (rmN 5 112) (PW D [(dB, .byte)] (xw dB ad P sz n0 n1 n2 kn fo ln wt sy qu ha tc) [.ref (ad 0)] hsz) (QI D [(dB, .byte)] (fun (r : Int32) (u : Nat × Nat × Nat × Nat × Nat × (Nat → Nat) × (Nat → Nat)) => (∃ n, r = nI n ∧ cmR 10 (fdX P sz ln sy qu) ln sy n) ∧ xS P sz ln sy qu u.2.2.2.2.2.2 u.2.2.2.1 u.2.2.2.2.1) (fun u : Nat × Nat × Nat × Nat × Nat × (Nat → Nat) × (Nat → Nat) => (xw dB ad P sz u.1 u.2.1 u.2.2.1 u.2.2.2.1 u.2.2.2.2.1 ln wt sy qu u.2.2.2.2.2.1 u.2.2.2.2.2.2)) (va_A (xw dB ad P sz n0 n1 n2 kn fo ln wt sy qu ha tc) hsz)) 0 0 (va_A (xw dB ad P sz n0 n1 n2 kn fo ln wt sy qu ha tc) hsz) := by
  refine en_wi (by decide) (Nat.le_of_ble_eq_true rfl) ?_
  intro p e s m below meth c F hr hlk A hA hK hP hD hS ls hl
  have hx := F.1
  have hb := F.2.1
  have F : CallFix p m c cX0_common 4 s [.ref (ad 0)].toArray lw_all RX0 := F
  have hl : lv_has ls 4 [(0, .ref (ad 0))] := hl
  obtain ⟨hI1, hs6, hln, hwt, hsy, hqu⟩ := id hI
  obtain ⟨hk1, htc, hco⟩ := id hS0
  refine lv_aload_n hx hb dX0_common_0 rfl (lv_at hl 0 rfl) ?_
  refine nc_wv (n := 0) (q0 := 0) (ci := 0) (wr := []) F (metX0_learn l D dB ad P sz n0 n1 n2 kn fo ln wt sy qu ha tc  hI hS0 _) (lw_V q110 q112 qs2 q24 q113) ⟨rfl, rfl⟩ (by decide +kernel) ⟨by decide, by decide⟩ hK hP hD hS hA [0, 1, 2, 3, 4, 5, 6] [] rfl rfl rfl rfl rfl (by decide) rfl rfl rfl rfl hl rfl (Nat.le_of_ble_eq_true rfl) dX0_common_1 ⟨by decide, by decide⟩ (fun u H locs hr1o hP hD hS => ?_)
  obtain ⟨n0_1, n1_1, n2_1, kn_1, fo_1, ha_1, tc_1⟩ := u
  have hP : va_P D vwCl (xw dB ad P sz n0_1 n1_1 n2_1 kn_1 fo_1 ln wt sy qu ha_1 tc_1) H := hP
  have hD : va_D A (xw dB ad P sz n0_1 n1_1 n2_1 kn_1 fo_1 ln wt sy qu ha_1 tc_1) := hD
  have hr1 : kn_1 = 1 ∧ (∀ j, tc_1 j ≤ 3) ∧ cok P sz ln sy qu tc_1 fo_1 := hr1o
  obtain ⟨hkn, htc1, hc⟩ := hr1
  have hfo := fo_lt hc
  refine lv_iconst (v := ((-1))) hx hb dX0_common_4 (by decide) ?_
  refine lv_istore_n (lv' := [(1, .int ((-1))), (0, .ref (ad 0))]) hx hb dX0_common_5 rfl hl (by decide) rfl (fun ls hl => ?_)
  refine lv_iconst (v := (nI 0)) hx hb dX0_common_6 (by decide) ?_
  refine lv_istore_n (lv' := [(2, .int (nI 0)), (1, .int ((-1))), (0, .ref (ad 0))]) hx hb dX0_common_7 rfl hl (by decide) rfl (fun ls hl => ?_)
  refine lv_iconst (v := (nI 0)) hx hb dX0_common_8 (by decide) ?_
  refine lv_istore_n (lv' := [(3, .int (nI 0)), (2, .int (nI 0)), (1, .int ((-1))), (0, .ref (ad 0))]) hx hb dX0_common_9 rfl hl (by decide) rfl (fun ls hl => ?_)
  refine lp_w3 (I := fun (i : Nat) (fi : Int32) (n : Nat) H locs ls => va_P D vwCl (xw dB ad P sz n0_1 n1_1 n2_1 kn_1 fo_1 ln wt sy qu ha_1 tc_1) H ∧ va_D A (xw dB ad P sz n0_1 n1_1 n2_1 kn_1 fo_1 ln wt sy qu ha_1 tc_1) ∧ va_S A s.heap H locs ∧ lv_has ls 4 [(0, .ref (ad 0)), (1, .int fi), (2, .int (nI n)), (3, .int (nI i))] ∧ (i ≤ 10) ∧ (n ≤ 6) ∧ (cmI i (fdX P sz ln sy qu) ln sy fi n)) (μ := fun (i : Nat) (fi : Int32) (n : Nat) => 10 - i) ?_ 0 ((-1)) 0 _ _ _ ⟨hP, hD, hS, lv_sub hl [3, 2, 1, 0] rfl, (Nat.zero_le _), (Nat.zero_le _), (cmI_0 _ _ _)⟩
  intro i fi n H locs ls hI0 ih10
  obtain ⟨hP, hD, hS, hl, hi, hn6, hcm⟩ := hI0
  have hl : lv_has ls 4 [(0, .ref (ad 0)), (1, .int fi), (2, .int (nI n)), (3, .int (nI i))] := hl
  have hP : va_P D vwCl (xw dB ad P sz n0_1 n1_1 n2_1 kn_1 fo_1 ln wt sy qu ha_1 tc_1) H := hP
  have hD : va_D A (xw dB ad P sz n0_1 n1_1 n2_1 kn_1 fo_1 ln wt sy qu ha_1 tc_1) := hD
  refine lv_iload_n hx hb dX0_common_10 rfl (lv_at hl 3 rfl) ?_
  refine lv_bipush (v := (nI 10)) hx hb dX0_common_11 (by decide) ?_
  refine nv_cge (tgt := 62) hx hb dX0_common_13 (by decide) (by omega) (by omega) (fun c13 => ?_) (fun c13 => ?_)
  · refine lv_iload_n hx hb dX0_common_62 rfl (lv_at hl 2 rfl) ?_
    exact rt_wi hx hb hr hlk dX0_common_63 hK hS (n0_1, n1_1, n2_1, kn_1, fo_1, ha_1, tc_1) hP hD ⟨⟨n, rfl, cmI_end (show cmI 10 (fdX P sz ln sy qu) ln sy fi n by rw [show 10 = i by omega]; exact hcm)⟩, ⟨Nat.le_of_eq hkn, htc1, fun _ => hc⟩⟩
  · refine lv_aload_n hx hb dX0_common_16 rfl (lv_at hl 0 rfl) ?_
    refine lv_iload_n hx hb dX0_common_17 rfl (lv_at hl 3 rfl) ?_
    refine nc_ro (n := 1) (q0 := 0) (ci := 0) F (metX0_isFound l D dB ad P sz n0_1 n1_1 n2_1 kn_1 fo_1 ln wt sy qu ha_1 tc_1 i (by omega) hfo) (lw_V q142 q144 qs10 q24 q145) ⟨rfl, rfl⟩ (by decide +kernel) ⟨by decide, by decide⟩ hK hP rfl rfl rfl rfl hl rfl (Nat.le_of_ble_eq_true rfl) dX0_common_18 ⟨by decide, by decide⟩ (fun r18 hr18 => ?_)
    have hr18 : r18 = (nI (Bool.toNat (fo_1.testBit i))) := hr18
    subst hr18
    refine nv_beq (tgt := 40) hx hb dX0_common_21 (by decide) (fun c21 => ?_) (fun c21 => ?_)
    · rw [fo_tb hc (by omega)] at c21
      refine lv_aload_n hx hb dX0_common_40 rfl (lv_at hl 0 rfl) ?_
      refine lv_iload_n hx hb dX0_common_41 rfl (lv_at hl 3 rfl) ?_
      refine nc_ro (n := 1) (q0 := 0) (ci := 0) F (metX0_isFound l D dB ad P sz n0_1 n1_1 n2_1 kn_1 fo_1 ln wt sy qu ha_1 tc_1 i (by omega) hfo) (lw_V q142 q144 qs10 q24 q145) ⟨rfl, rfl⟩ (by decide +kernel) ⟨by decide, by decide⟩ hK hP rfl rfl rfl rfl hl rfl (Nat.le_of_ble_eq_true rfl) dX0_common_42 ⟨by decide, by decide⟩ (fun r42 hr42 => ?_)
      have hr42 : r42 = (nI (Bool.toNat (fo_1.testBit i))) := hr42
      subst hr42
      refine nv_beq (tgt := 56) hx hb dX0_common_45 (by decide) (fun c45 => ?_) (fun c45 => ?_)
      · refine lv_iinc (v := nI (i + 1)) (lv' := [(3, .int (nI (i + 1))), (0, .ref (ad 0)), (1, .int fi), (2, .int (nI n))]) hx hb dX0_common_56 hl (k := 3) rfl (nv_inc _) (by decide) rfl (fun ls hl => ?_)
        refine lv_goto (tgt := 10) hx hb dX0_common_59 (by decide) ?_
        exact ih10 (i + 1) fi n _ _ _ (by first | omega | (dsimp only; omega)) ⟨hP, hD, hS, lv_sub hl [1, 2, 3, 0] rfl, (by omega), hn6, (cmI_skip c21 hcm)⟩
      · exact absurd (c45.symm.trans ((fo_tb hc (by omega)).trans c21)) (by decide)
    · rw [fo_tb hc (by omega)] at c21
      refine lv_iload_n hx hb dX0_common_24 rfl (lv_at hl 1 rfl) ?_
      refine lv_if_ge (tgt := 40) hx hb dX0_common_25 (by decide) (fun c25 => ?_) (fun c25 => ?_)
      · obtain ⟨f, hfi, rfl, hff, hcn, hcx⟩ := cmI_pos hcm c25
        refine lv_aload_n hx hb dX0_common_40 rfl (lv_at hl 0 rfl) ?_
        refine lv_iload_n hx hb dX0_common_41 rfl (lv_at hl 3 rfl) ?_
        refine nc_ro (n := 1) (q0 := 0) (ci := 0) F (metX0_isFound l D dB ad P sz n0_1 n1_1 n2_1 kn_1 fo_1 ln wt sy qu ha_1 tc_1 i (by omega) hfo) (lw_V q142 q144 qs10 q24 q145) ⟨rfl, rfl⟩ (by decide +kernel) ⟨by decide, by decide⟩ hK hP rfl rfl rfl rfl hl rfl (Nat.le_of_ble_eq_true rfl) dX0_common_42 ⟨by decide, by decide⟩ (fun r42 hr42 => ?_)
        have hr42 : r42 = (nI (Bool.toNat (fo_1.testBit i))) := hr42
        subst hr42
        refine nv_beq (tgt := 56) hx hb dX0_common_45 (by decide) (fun c45 => ?_) (fun c45 => ?_)
        · exact absurd (c45.symm.trans ((fo_tb hc (by omega)).trans c21)) (by decide)
        · refine lv_aload_n hx hb dX0_common_48 rfl (lv_at hl 0 rfl) ?_
          refine lv_iload_n hx hb dX0_common_49 rfl (lv_at hl 1 rfl) ?_
          refine lv_iload_n hx hb dX0_common_50 rfl (lv_at hl 3 rfl) ?_
          refine lv_iload_n hx hb dX0_common_51 rfl (lv_at hl 2 rfl) ?_
          refine nc_ro (n := 3) (q0 := 0) (ci := 0) F (metX0_shared l D dB ad P sz n0_1 n1_1 n2_1 kn_1 fo_1 ln wt sy qu ha_1 tc_1 f i n hI (by omega) (by omega) (by omega)) (lw_V q189 q191 qs13 q24 q192) ⟨rfl, rfl⟩ (by decide +kernel) ⟨by decide, by decide⟩ hK hP rfl rfl rfl rfl hl rfl (Nat.le_of_ble_eq_true rfl) dX0_common_52 ⟨by decide, by decide⟩ (fun r52 hr52 => ?_)
          have hr52 : ∃ q, r52 = nI q ∧ shR ln sy f i n q := hr52
          obtain ⟨q, rfl, hsh⟩ := hr52
          refine lv_istore_n (lv' := [(2, .int (nI q)), (0, .ref (ad 0)), (1, .int (nI f)), (3, .int (nI i))]) hx hb dX0_common_55 rfl hl (by decide) rfl (fun ls hl => ?_)
          refine lv_iinc (v := nI (i + 1)) (lv' := [(3, .int (nI (i + 1))), (2, .int (nI q)), (0, .ref (ad 0)), (1, .int (nI f))]) hx hb dX0_common_56 hl (k := 3) rfl (nv_inc _) (by decide) rfl (fun ls hl => ?_)
          refine lv_goto (tgt := 10) hx hb dX0_common_59 (by decide) ?_
          exact ih10 (i + 1) ((nI f)) q _ _ _ (by first | omega | (dsimp only; omega)) ⟨hP, hD, hS, lv_sub hl [2, 3, 1, 0] rfl, (by omega), (Nat.le_trans hsh.1 hn6), (cmI_next hfi hff hcn hcx c21 hsh)⟩
      · refine lv_iload_n hx hb dX0_common_28 rfl (lv_at hl 3 rfl) ?_
        refine lv_istore_n (lv' := [(1, .int (nI i)), (0, .ref (ad 0)), (2, .int (nI n)), (3, .int (nI i))]) hx hb dX0_common_29 rfl hl (by decide) rfl (fun ls hl => ?_)
        refine lv_aload_n hx hb dX0_common_30 rfl (lv_at hl 1 rfl) ?_
        refine gx F hK hP rfl 1 (by decide) q35 rfl dX0_common_31 ?_
        refine lv_iload_n hx hb dX0_common_34 rfl (lv_at hl 3 rfl) ?_
        refine nv_bald (f := ln) (n := 10) hx hb hK hP 1 0 rfl rfl (by omega) (by decide) dX0_common_35 ?_
        have hbd2 := hln i
        refine lv_istore_n (lv' := [(2, .int (nI (ln i))), (1, .int (nI i)), (0, .ref (ad 0)), (3, .int (nI i))]) hx hb dX0_common_36 rfl hl (by decide) rfl (fun ls hl => ?_)
        refine lv_goto (tgt := 56) hx hb dX0_common_37 (by decide) ?_
        refine lv_iinc (v := nI (i + 1)) (lv' := [(3, .int (nI (i + 1))), (2, .int (nI (ln i))), (1, .int (nI i)), (0, .ref (ad 0))]) hx hb dX0_common_56 hl (k := 3) rfl (nv_inc _) (by decide) rfl (fun ls hl => ?_)
        refine lv_goto (tgt := 10) hx hb dX0_common_59 (by decide) ?_
        exact ih10 (i + 1) ((nI i)) (ln i) _ _ _ (by first | omega | (dsimp only; omega)) ⟨hP, hD, hS, lv_sub hl [3, 2, 1, 0] rfl, (by omega), (hln i), (cmI_first (cmI_neg hcm hi c25) c21)⟩
end
section
set_option maxRecDepth 100000
set_option maxHeartbeats 4000000 in
/-- is(w) -/
theorem metX1_is (l : Launch) (D : va_G) (dI : ClassId) (bd : Nat → Nat) (sz : Nat) (ln sy wt qu co : Nat → Nat) (w : Int32) (hln : ∀ j, ln j ≤ 6) : Met l yX1_is (ws_ yX1_is cX1_is 2 (some .boolean)) (rmN 0 0) (PR D [(dI, .int)] (mw dI bd sz ln sy wt qu co) [.ref (bd 0), .int w]) (vp_Si (fun r => r = (nI (Bool.toNat (isF ln w))))) 0 0 (fun _ => False) := by
  refine en_ro (by decide) (Nat.le_of_ble_eq_true rfl) ?_
  intro p e s m below meth c F hr hlk hK hP ls hl
  have hx := F.1
  have hb := F.2.1
  have F : CallFix p m c cX1_is 2 s [.ref (bd 0), .int w].toArray lw_all RX1 := F
  have hl : lv_has ls 2 [(0, .ref (bd 0)), (1, .int w)] := hl
  refine lv_iload_n hx hb dX1_is_0 rfl (lv_at hl 1 rfl) ?_
  refine lv_if_lt (tgt := 23) hx hb dX1_is_1 (by decide) (fun c1 => ?_) (fun c1 => ?_)
  · refine lv_iconst (v := (nI 0)) hx hb dX1_is_23 (by decide) ?_
    exact rt_rz hx hb hr hlk dX1_is_24 rfl (by rw [show isF ln w = false from inF_lo (rg_neg c1)]; rfl)
  · refine lv_iload_n hx hb dX1_is_4 rfl (lv_at hl 1 rfl) ?_
    refine lv_bipush (v := (nI 10)) hx hb dX1_is_5 (by decide) ?_
    refine lv_icmp_ge (tgt := 23) hx hb dX1_is_7 (by decide) (fun c7 => ?_) (fun c7 => ?_)
    · refine lv_iconst (v := (nI 0)) hx hb dX1_is_23 (by decide) ?_
      exact rt_rz hx hb hr hlk dX1_is_24 rfl (by rw [show isF ln w = false from inF_hi (rg_big (by decide) c7)]; rfl)
    · obtain ⟨j, hj, rfl⟩ := rg_ex (by decide) c1 c7
      refine lv_aload_n hx hb dX1_is_10 rfl (lv_at hl 0 rfl) ?_
      refine gm F hK hP rfl 0 (by decide) q199 rfl dX1_is_11 ?_
      refine lv_iload_n hx hb dX1_is_14 rfl (lv_at hl 1 rfl) ?_
      refine nv_iald (f := ln) (n := 10) hx hb hK hP 1 0 rfl rfl (by omega) (by decide) dX1_is_15 ?_
      have hbd1 := hln j
      refine nv_zle (tgt := 23) hx hb dX1_is_16 (by decide) (by omega) (fun c16 => ?_) (fun c16 => ?_)
      · refine lv_iconst (v := (nI 0)) hx hb dX1_is_23 (by decide) ?_
        exact rt_rz hx hb hr hlk dX1_is_24 rfl (by rw [isF_n hj, isB_0 c16]; rfl)
      · refine lv_iconst (v := (nI 1)) hx hb dX1_is_19 (by decide) ?_
        refine lv_goto (tgt := 24) hx hb dX1_is_20 (by decide) ?_
        exact rt_rz hx hb hr hlk dX1_is_24 rfl (by rw [isF_n hj, isB_1 c16]; rfl)
set_option maxHeartbeats 4000000 in
/-- typed() -/
theorem metX1_typed (l : Launch) (D : va_G) (dI : ClassId) (bd : Nat → Nat) (sz : Nat) (ln sy wt qu co : Nat → Nat)   : Met l yX1_typed (ws_ yX1_typed cX1_typed 1 (some .int)) (rmN 0 0) (PR D [(dI, .int)] (mw dI bd sz ln sy wt qu co) [.ref (bd 0)]) (vp_Si (fun r => r = (nI sz))) 0 0 (fun _ => False) := by
  refine en_ro (by decide) (Nat.le_of_ble_eq_true rfl) ?_
  intro p e s m below meth c F hr hlk hK hP ls hl
  have hx := F.1
  have hb := F.2.1
  have F : CallFix p m c cX1_typed 1 s [.ref (bd 0)].toArray lw_all RX1 := F
  have hl : lv_has ls 1 [(0, .ref (bd 0))] := hl
  refine lv_aload_n hx hb dX1_typed_0 rfl (lv_at hl 0 rfl) ?_
  refine gm F hK hP rfl 3 (by decide) q202 rfl dX1_typed_1 ?_
  exact rt_ri hx hb hr hlk dX1_typed_4 rfl
set_option maxHeartbeats 4000000 in
/-- words() -/
theorem metX1_words (l : Launch) (D : va_G) (dI : ClassId) (bd : Nat → Nat) (sz : Nat) (ln sy wt qu co : Nat → Nat)  (hln : ∀ j, ln j ≤ 6) : Met l yX1_words (ws_ yX1_words cX1_words 3 (some .int)) (rmN 1 21) (PR D [(dI, .int)] (mw dI bd sz ln sy wt qu co) [.ref (bd 0)]) (vp_Si (fun r => r = (nI (setOf (isB ln) 10)))) 0 0 (fun _ => False) := by
  refine en_ro (by decide) (Nat.le_of_ble_eq_true rfl) ?_
  intro p e s m below meth c F hr hlk hK hP ls hl
  have hx := F.1
  have hb := F.2.1
  have F : CallFix p m c cX1_words 3 s [.ref (bd 0)].toArray lw_all RX1 := F
  have hl : lv_has ls 3 [(0, .ref (bd 0))] := hl
  refine lv_iconst (v := (nI 0)) hx hb dX1_words_0 (by decide) ?_
  refine lv_istore_n (lv' := [(1, .int (nI 0)), (0, .ref (bd 0))]) hx hb dX1_words_1 rfl hl (by decide) rfl (fun ls hl => ?_)
  refine lv_iconst (v := (nI 0)) hx hb dX1_words_2 (by decide) ?_
  refine lv_istore_n (lv' := [(2, .int (nI 0)), (1, .int (nI 0)), (0, .ref (bd 0))]) hx hb dX1_words_3 rfl hl (by decide) rfl (fun ls hl => ?_)
  refine lp_r2 (I := fun (i : Nat) (g : Nat) ls => lv_has ls 3 [(0, .ref (bd 0)), (1, .int (nI g)), (2, .int (nI i))] ∧ (i ≤ 10) ∧ (g = setOf (isB ln) i)) (μ := fun (i : Nat) (g : Nat) => 10 - i) ?_ 0 0 _ ⟨lv_sub hl [2, 1, 0] rfl, (Nat.zero_le _), rfl⟩
  intro i g ls hI0 ih4
  obtain ⟨hl, hi, hg⟩ := hI0
  have hl : lv_has ls 3 [(0, .ref (bd 0)), (1, .int (nI g)), (2, .int (nI i))] := hl
  refine lv_iload_n hx hb dX1_words_4 rfl (lv_at hl 2 rfl) ?_
  refine lv_bipush (v := (nI 10)) hx hb dX1_words_5 (by decide) ?_
  refine nv_cge (tgt := 34) hx hb dX1_words_7 (by decide) (by omega) (by omega) (fun c7 => ?_) (fun c7 => ?_)
  · refine lv_iload_n hx hb dX1_words_34 rfl (lv_at hl 1 rfl) ?_
    exact rt_ri hx hb hr hlk dX1_words_35 (congrArg nI (by rw [hg, show i = 10 by omega]))
  · refine lv_aload_n hx hb dX1_words_10 rfl (lv_at hl 0 rfl) ?_
    refine lv_iload_n hx hb dX1_words_11 rfl (lv_at hl 2 rfl) ?_
    refine nc_ro (n := 1) (q0 := 0) (ci := 1) F (metX1_is l D dI bd sz ln sy wt qu co (nI i) hln) (lw_V q227 q229 qs14 q25 q230) ⟨rfl, rfl⟩ (by decide +kernel) ⟨by decide, by decide⟩ hK hP rfl rfl rfl rfl hl rfl (Nat.le_of_ble_eq_true rfl) dX1_words_12 ⟨by decide, by decide⟩ (fun r12 hr12 => ?_)
    have hr12 : r12 = (nI (Bool.toNat (isF ln ((nI i))))) := hr12
    subst hr12
    refine nv_beq (tgt := 26) hx hb dX1_words_15 (by decide) (fun c15 => ?_) (fun c15 => ?_)
    · rw [isF_n (by omega)] at c15
      refine lv_iload_n hx hb dX1_words_26 rfl (lv_at hl 1 rfl) ?_
      refine lv_istore_n (lv' := [(1, .int (nI g)), (0, .ref (bd 0)), (2, .int (nI i))]) hx hb dX1_words_27 rfl hl (by decide) rfl (fun ls hl => ?_)
      refine lv_iinc (v := nI (i + 1)) (lv' := [(2, .int (nI (i + 1))), (1, .int (nI g)), (0, .ref (bd 0))]) hx hb dX1_words_28 hl (k := 2) rfl (nv_inc _) (by decide) rfl (fun ls hl => ?_)
      refine lv_goto (tgt := 4) hx hb dX1_words_31 (by decide) ?_
      exact ih4 (i + 1) g _ (by first | omega | (dsimp only; omega)) ⟨lv_sub hl [2, 1, 0] rfl, (by omega), (by rw [hg, setOf_f c15])⟩
    · rw [isF_n (by omega)] at c15
      refine lv_iload_n hx hb dX1_words_18 rfl (lv_at hl 1 rfl) ?_
      refine lv_iconst (v := (nI 1)) hx hb dX1_words_19 (by decide) ?_
      refine lv_iload_n hx hb dX1_words_20 rfl (lv_at hl 2 rfl) ?_
      refine nv_ishl hx hb (by omega) dX1_words_21 ?_
      refine nv_ior hx hb dX1_words_22 ?_
      refine lv_goto (tgt := 27) hx hb dX1_words_23 (by decide) ?_
      refine lv_istore_n (lv' := [(1, .int (nI (g ||| (1 <<< i)))), (0, .ref (bd 0)), (2, .int (nI i))]) hx hb dX1_words_27 rfl hl (by decide) rfl (fun ls hl => ?_)
      refine lv_iinc (v := nI (i + 1)) (lv' := [(2, .int (nI (i + 1))), (1, .int (nI (g ||| (1 <<< i)))), (0, .ref (bd 0))]) hx hb dX1_words_28 hl (k := 2) rfl (nv_inc _) (by decide) rfl (fun ls hl => ?_)
      refine lv_goto (tgt := 4) hx hb dX1_words_31 (by decide) ?_
      exact ih4 (i + 1) (g ||| (1 <<< i)) _ (by first | omega | (dsimp only; omega)) ⟨lv_sub hl [2, 1, 0] rfl, (by omega), (by rw [hg, setOf_t c15])⟩
set_option maxHeartbeats 4000000 in
/-- min(x, y) -/
theorem metX1_min (l : Launch) (D : va_G) (dI : ClassId) (bd : Nat → Nat) (sz : Nat) (ln sy wt qu co : Nat → Nat) (x : Nat) (y : Nat) (hx0 : x < 2 ^ 31) (hy0 : y < 2 ^ 31) : Met l yX1_min (ws_ yX1_min cX1_min 3 (some .int)) (rmN 0 0) (PR D [(dI, .int)] (mw dI bd sz ln sy wt qu co) [.ref (bd 0), .int (nI x), .int (nI y)]) (vp_Si (fun r => r = (nI (min x y)))) 0 0 (fun _ => False) := by
  refine en_ro (by decide) (Nat.le_of_ble_eq_true rfl) ?_
  intro p e s m below meth c F hr hlk hK hP ls hl
  have hx := F.1
  have hb := F.2.1
  have F : CallFix p m c cX1_min 3 s [.ref (bd 0), .int (nI x), .int (nI y)].toArray lw_all RX1 := F
  have hl : lv_has ls 3 [(0, .ref (bd 0)), (1, .int (nI x)), (2, .int (nI y))] := hl
  refine lv_iload_n hx hb dX1_min_0 rfl (lv_at hl 1 rfl) ?_
  refine lv_iload_n hx hb dX1_min_1 rfl (lv_at hl 2 rfl) ?_
  refine nv_cge (tgt := 9) hx hb dX1_min_2 (by decide) (by omega) (by omega) (fun c2 => ?_) (fun c2 => ?_)
  · refine lv_iload_n hx hb dX1_min_9 rfl (lv_at hl 2 rfl) ?_
    exact rt_ri hx hb hr hlk dX1_min_10 (congrArg nI (by omega))
  · refine lv_iload_n hx hb dX1_min_5 rfl (lv_at hl 1 rfl) ?_
    refine lv_goto (tgt := 10) hx hb dX1_min_6 (by decide) ?_
    exact rt_ri hx hb hr hlk dX1_min_10 (congrArg nI (by omega))
set_option maxHeartbeats 4000000 in
/-- step(w, i, j) -/
theorem metX1_step (l : Launch) (D : va_G) (dI : ClassId) (bd : Nat → Nat) (sz : Nat) (ln sy wt qu co : Nat → Nat) (w : Nat) (i : Nat) (j : Nat) (hI : mI sz ln wt sy qu) (hco : ∀ k, co k ≤ 100) (hw : w < 10) (hi6 : i ≤ 6) (hj6 : j ≤ 6) : Met l yX1_step (ws_ yX1_step cX1_step 7 (some .int)) (rmN 1 22) (PR D [(dI, .int)] (mw dI bd sz ln sy wt qu co) [.ref (bd 0), .int (nI w), .int (nI i), .int (nI j)]) (vp_Si (fun r => r = (nI (stF co qu sy w i j)))) 0 0 (fun _ => False) := by
  refine en_ro (by decide) (Nat.le_of_ble_eq_true rfl) ?_
  intro p e s m below meth c F hr hlk hK hP ls hl
  have hx := F.1
  have hb := F.2.1
  have F : CallFix p m c cX1_step 7 s [.ref (bd 0), .int (nI w), .int (nI i), .int (nI j)].toArray lw_all RX1 := F
  have hl : lv_has ls 7 [(0, .ref (bd 0)), (1, .int (nI w)), (2, .int (nI i)), (3, .int (nI j))] := hl
  obtain ⟨hs6, hln, hwt, hsy, hqu⟩ := id hI
  refine lv_bipush (v := (nI 100)) hx hb dX1_step_0 (by decide) ?_
  refine lv_istore (lv' := [(4, .int (nI 100)), (0, .ref (bd 0)), (1, .int (nI w)), (2, .int (nI i)), (3, .int (nI j))]) hx hb dX1_step_2 hl (by decide) rfl (fun ls hl => ?_)
  refine lv_iload_n hx hb dX1_step_4 rfl (lv_at hl 3 rfl) ?_
  refine lv_iconst (v := (nI 1)) hx hb dX1_step_5 (by decide) ?_
  refine nv_cne (tgt := 13) hx hb dX1_step_6 (by decide) (by omega) (by omega) (fun c6 => ?_) (fun c6 => ?_)
  · refine lv_iconst (v := (nI 1)) hx hb dX1_step_13 (by decide) ?_
    refine lv_istore (lv' := [(5, .int (nI 1)), (4, .int (nI 100)), (0, .ref (bd 0)), (1, .int (nI w)), (2, .int (nI i)), (3, .int (nI j))]) hx hb dX1_step_14 hl (by decide) rfl (fun ls hl => ?_)
    refine lv_iload_n hx hb dX1_step_16 rfl (lv_at hl 4 rfl) ?_
    refine nv_zle (tgt := 45) hx hb dX1_step_17 (by decide) (by omega) (fun c17 => ?_) (fun c17 => ?_)
    · refine lv_iload_n hx hb dX1_step_45 rfl (lv_at hl 5 rfl) ?_
      refine nv_zle (tgt := 80) hx hb dX1_step_46 (by decide) (by omega) (fun c46 => ?_) (fun c46 => ?_)
      · refine lv_iload_n hx hb dX1_step_80 rfl (lv_at hl 4 rfl) ?_
        refine nv_zle (tgt := 153) hx hb dX1_step_81 (by decide) (by omega) (fun c81 => ?_) (fun c81 => ?_)
        · refine lv_iload hx hb dX1_step_153 (lv_at hl 1 rfl) ?_
          exact rt_ri hx hb hr hlk dX1_step_155 (congrArg nI (by unfold stF fsC; dsimp only; (repeat' split) <;> omega))
        · exact absurd c81 (by omega)
      · refine lv_aload_n hx hb dX1_step_49 rfl (lv_at hl 2 rfl) ?_
        refine lv_iload hx hb dX1_step_50 (lv_at hl 1 rfl) ?_
        refine lv_aload_n hx hb dX1_step_52 rfl (lv_at hl 2 rfl) ?_
        refine gm F hK hP rfl 5 (by decide) q204 rfl dX1_step_53 ?_
        refine lv_bipush (v := (nI 7)) hx hb dX1_step_56 (by decide) ?_
        refine lv_iload_n hx hb dX1_step_58 rfl (lv_at hl 4 rfl) ?_
        refine nv_imul hx hb dX1_step_59 ?_
        refine lv_iload_n hx hb dX1_step_60 rfl (lv_at hl 5 rfl) ?_
        refine nv_iadd hx hb dX1_step_61 ?_
        refine lv_iconst (v := (nI 1)) hx hb dX1_step_62 (by decide) ?_
        refine nv_isub hx hb (by omega) dX1_step_63 ?_
        refine nv_iald (f := co) (n := 49) hx hb hK hP 5 0 rfl rfl (by omega) (by decide) dX1_step_64 ?_
        have hbd1 := hco (((7 * i) + j) - 1)
        refine lv_iload_n hx hb dX1_step_65 rfl (lv_at hl 4 rfl) ?_
        refine nv_zne (tgt := 73) hx hb dX1_step_66 (by decide) (by omega) (fun c66 => ?_) (fun c66 => ?_)
        · exact absurd c17 c66
        · refine lv_iconst (v := (nI 2)) hx hb dX1_step_69 (by decide) ?_
          refine lv_goto (tgt := 74) hx hb dX1_step_70 (by decide) ?_
          refine nv_iadd hx hb dX1_step_74 ?_
          refine nc_ro (n := 2) (q0 := 0) (ci := 1) F (metX1_min l D dI bd sz ln sy wt qu co 100 ((co (((7 * i) + j) - 1)) + 2) (by omega) (by omega)) (lw_V q267 q269 qs19 q25 q270) ⟨rfl, rfl⟩ (by decide +kernel) ⟨by decide, by decide⟩ hK hP rfl rfl rfl rfl hl rfl (Nat.le_of_ble_eq_true rfl) dX1_step_75 ⟨by decide, by decide⟩ (fun r75 hr75 => ?_)
          have hr75 : r75 = (nI (min 100 (((co (((7 * i) + j) - 1)) + 2)))) := hr75
          subst hr75
          refine lv_istore (lv' := [(4, .int (nI (min 100 (((co (((7 * i) + j) - 1)) + 2))))), (5, .int (nI 1)), (0, .ref (bd 0)), (1, .int (nI w)), (2, .int (nI i)), (3, .int (nI j))]) hx hb dX1_step_78 hl (by decide) rfl (fun ls hl => ?_)
          refine lv_iload_n hx hb dX1_step_80 rfl (lv_at hl 4 rfl) ?_
          refine nv_zle (tgt := 153) hx hb dX1_step_81 (by decide) (by omega) (fun c81 => ?_) (fun c81 => ?_)
          · refine lv_iload hx hb dX1_step_153 (lv_at hl 0 rfl) ?_
            exact rt_ri hx hb hr hlk dX1_step_155 (congrArg nI (by unfold stF fsC; dsimp only; (repeat' split) <;> omega))
          · exact absurd c81 (by omega)
    · refine lv_aload_n hx hb dX1_step_20 rfl (lv_at hl 2 rfl) ?_
      refine lv_iload hx hb dX1_step_21 (lv_at hl 1 rfl) ?_
      refine lv_aload_n hx hb dX1_step_23 rfl (lv_at hl 2 rfl) ?_
      refine gm F hK hP rfl 5 (by decide) q204 rfl dX1_step_24 ?_
      refine lv_bipush (v := (nI 7)) hx hb dX1_step_27 (by decide) ?_
      refine lv_iload_n hx hb dX1_step_29 rfl (lv_at hl 4 rfl) ?_
      refine nv_imul hx hb dX1_step_30 ?_
      refine lv_bipush (v := (nI 7)) hx hb dX1_step_31 (by decide) ?_
      refine nv_isub hx hb (by omega) dX1_step_33 ?_
      refine lv_iload_n hx hb dX1_step_34 rfl (lv_at hl 5 rfl) ?_
      refine nv_iadd hx hb dX1_step_35 ?_
      refine nv_iald (f := co) (n := 49) hx hb hK hP 5 0 rfl rfl (by omega) (by decide) dX1_step_36 ?_
      have hbd2 := hco (((7 * i) - 7) + j)
      refine lv_iload hx hb dX1_step_37 (lv_at hl 0 rfl) ?_
      refine nv_iadd hx hb dX1_step_39 ?_
      refine nc_ro (n := 2) (q0 := 0) (ci := 1) F (metX1_min l D dI bd sz ln sy wt qu co 100 ((co (((7 * i) - 7) + j)) + 1) (by omega) (by omega)) (lw_V q267 q269 qs19 q25 q270) ⟨rfl, rfl⟩ (by decide +kernel) ⟨by decide, by decide⟩ hK hP rfl rfl rfl rfl hl rfl (Nat.le_of_ble_eq_true rfl) dX1_step_40 ⟨by decide, by decide⟩ (fun r40 hr40 => ?_)
      have hr40 : r40 = (nI (min 100 (((co (((7 * i) - 7) + j)) + 1)))) := hr40
      subst hr40
      refine lv_istore (lv' := [(4, .int (nI (min 100 (((co (((7 * i) - 7) + j)) + 1))))), (5, .int (nI 1)), (0, .ref (bd 0)), (1, .int (nI w)), (2, .int (nI i)), (3, .int (nI j))]) hx hb dX1_step_43 hl (by decide) rfl (fun ls hl => ?_)
      refine lv_iload_n hx hb dX1_step_45 rfl (lv_at hl 5 rfl) ?_
      refine nv_zle (tgt := 80) hx hb dX1_step_46 (by decide) (by omega) (fun c46 => ?_) (fun c46 => ?_)
      · refine lv_iload_n hx hb dX1_step_80 rfl (lv_at hl 4 rfl) ?_
        refine nv_zle (tgt := 153) hx hb dX1_step_81 (by decide) (by omega) (fun c81 => ?_) (fun c81 => ?_)
        · exact absurd c81 (by omega)
        · refine lv_iload_n hx hb dX1_step_84 rfl (lv_at hl 5 rfl) ?_
          refine nv_zle (tgt := 153) hx hb dX1_step_85 (by decide) (by omega) (fun c85 => ?_) (fun c85 => ?_)
          · refine lv_iload hx hb dX1_step_153 (lv_at hl 0 rfl) ?_
            exact rt_ri hx hb hr hlk dX1_step_155 (congrArg nI (by unfold stF fsC; dsimp only; (repeat' split) <;> omega))
          · exact absurd c85 (by omega)
      · refine lv_aload_n hx hb dX1_step_49 rfl (lv_at hl 2 rfl) ?_
        refine lv_iload hx hb dX1_step_50 (lv_at hl 0 rfl) ?_
        refine lv_aload_n hx hb dX1_step_52 rfl (lv_at hl 2 rfl) ?_
        refine gm F hK hP rfl 5 (by decide) q204 rfl dX1_step_53 ?_
        refine lv_bipush (v := (nI 7)) hx hb dX1_step_56 (by decide) ?_
        refine lv_iload_n hx hb dX1_step_58 rfl (lv_at hl 4 rfl) ?_
        refine nv_imul hx hb dX1_step_59 ?_
        refine lv_iload_n hx hb dX1_step_60 rfl (lv_at hl 5 rfl) ?_
        refine nv_iadd hx hb dX1_step_61 ?_
        refine lv_iconst (v := (nI 1)) hx hb dX1_step_62 (by decide) ?_
        refine nv_isub hx hb (by omega) dX1_step_63 ?_
        refine nv_iald (f := co) (n := 49) hx hb hK hP 5 0 rfl rfl (by omega) (by decide) dX1_step_64 ?_
        have hbd3 := hco (((7 * i) + j) - 1)
        refine lv_iload_n hx hb dX1_step_65 rfl (lv_at hl 4 rfl) ?_
        refine nv_zne (tgt := 73) hx hb dX1_step_66 (by decide) (by omega) (fun c66 => ?_) (fun c66 => ?_)
        · refine lv_iconst (v := (nI 1)) hx hb dX1_step_73 (by decide) ?_
          refine nv_iadd hx hb dX1_step_74 ?_
          refine nc_ro (n := 2) (q0 := 0) (ci := 1) F (metX1_min l D dI bd sz ln sy wt qu co (min 100 (((co (((7 * i) - 7) + j)) + 1))) ((co (((7 * i) + j) - 1)) + 1) (by omega) (by omega)) (lw_V q267 q269 qs19 q25 q270) ⟨rfl, rfl⟩ (by decide +kernel) ⟨by decide, by decide⟩ hK hP rfl rfl rfl rfl hl rfl (Nat.le_of_ble_eq_true rfl) dX1_step_75 ⟨by decide, by decide⟩ (fun r75 hr75 => ?_)
          have hr75 : r75 = (nI (min ((min 100 (((co (((7 * i) - 7) + j)) + 1)))) (((co (((7 * i) + j) - 1)) + 1)))) := hr75
          subst hr75
          refine lv_istore (lv' := [(4, .int (nI (min ((min 100 (((co (((7 * i) - 7) + j)) + 1)))) (((co (((7 * i) + j) - 1)) + 1))))), (5, .int (nI 1)), (0, .ref (bd 0)), (1, .int (nI w)), (2, .int (nI i)), (3, .int (nI j))]) hx hb dX1_step_78 hl (by decide) rfl (fun ls hl => ?_)
          refine lv_iload_n hx hb dX1_step_80 rfl (lv_at hl 4 rfl) ?_
          refine nv_zle (tgt := 153) hx hb dX1_step_81 (by decide) (by omega) (fun c81 => ?_) (fun c81 => ?_)
          · exact absurd c81 (by omega)
          · refine lv_iload_n hx hb dX1_step_84 rfl (lv_at hl 5 rfl) ?_
            refine nv_zle (tgt := 153) hx hb dX1_step_85 (by decide) (by omega) (fun c85 => ?_) (fun c85 => ?_)
            · exact absurd c85 (by omega)
            · refine lv_aload_n hx hb dX1_step_88 rfl (lv_at hl 2 rfl) ?_
              refine gm F hK hP rfl 4 (by decide) q203 rfl dX1_step_89 ?_
              refine lv_iload_n hx hb dX1_step_92 rfl (lv_at hl 4 rfl) ?_
              refine lv_iconst (v := (nI 1)) hx hb dX1_step_93 (by decide) ?_
              refine nv_isub hx hb (by omega) dX1_step_94 ?_
              refine nv_iald (f := qu) (n := 7) hx hb hK hP 4 0 rfl rfl (by omega) (by decide) dX1_step_95 ?_
              have hbd4 := hqu (i - 1)
              refine lv_aload_n hx hb dX1_step_96 rfl (lv_at hl 2 rfl) ?_
              refine gm F hK hP rfl 1 (by decide) q200 rfl dX1_step_97 ?_
              refine lv_bipush (v := (nI 6)) hx hb dX1_step_100 (by decide) ?_
              refine lv_iload_n hx hb dX1_step_102 rfl (lv_at hl 3 rfl) ?_
              refine nv_imul hx hb dX1_step_103 ?_
              refine lv_iload_n hx hb dX1_step_104 rfl (lv_at hl 5 rfl) ?_
              refine nv_iadd hx hb dX1_step_105 ?_
              refine lv_iconst (v := (nI 1)) hx hb dX1_step_106 (by decide) ?_
              refine nv_isub hx hb (by omega) dX1_step_107 ?_
              refine nv_iald (f := sy) (n := 60) hx hb hK hP 2 0 rfl rfl (by omega) (by decide) dX1_step_108 ?_
              have hbd5 := hsy (((6 * w) + j) - 1)
              refine nv_cne (tgt := 116) hx hb dX1_step_109 (by decide) (by omega) (by omega) (fun c109 => ?_) (fun c109 => ?_)
              · refine lv_iconst (v := (nI 0)) hx hb dX1_step_116 (by decide) ?_
                refine lv_istore (lv' := [(6, .int (nI 0)), (4, .int (nI (min ((min 100 (((co (((7 * i) - 7) + j)) + 1)))) (((co (((7 * i) + j) - 1)) + 1))))), (5, .int (nI 1)), (0, .ref (bd 0)), (1, .int (nI w)), (2, .int (nI i)), (3, .int (nI j))]) hx hb dX1_step_117 hl (by decide) rfl (fun ls hl => ?_)
                refine lv_aload_n hx hb dX1_step_119 rfl (lv_at hl 3 rfl) ?_
                refine lv_iload hx hb dX1_step_120 (lv_at hl 1 rfl) ?_
                refine lv_aload_n hx hb dX1_step_122 rfl (lv_at hl 3 rfl) ?_
                refine gm F hK hP rfl 5 (by decide) q204 rfl dX1_step_123 ?_
                refine lv_bipush (v := (nI 7)) hx hb dX1_step_126 (by decide) ?_
                refine lv_iload_n hx hb dX1_step_128 rfl (lv_at hl 5 rfl) ?_
                refine nv_imul hx hb dX1_step_129 ?_
                refine lv_iload_n hx hb dX1_step_130 rfl (lv_at hl 6 rfl) ?_
                refine nv_iadd hx hb dX1_step_131 ?_
                refine lv_bipush (v := (nI 8)) hx hb dX1_step_132 (by decide) ?_
                refine nv_isub hx hb (by omega) dX1_step_134 ?_
                refine nv_iald (f := co) (n := 49) hx hb hK hP 5 0 rfl rfl (by omega) (by decide) dX1_step_135 ?_
                have hbd6 := hco (((7 * i) + j) - 8)
                refine lv_iload hx hb dX1_step_136 (lv_at hl 0 rfl) ?_
                refine nv_zeq (tgt := 145) hx hb dX1_step_138 (by decide) (by omega) (fun c138 => ?_) (fun c138 => ?_)
                · refine lv_iload hx hb dX1_step_145 (lv_at hl 2 rfl) ?_
                  refine nv_iadd hx hb dX1_step_147 ?_
                  refine nc_ro (n := 2) (q0 := 0) (ci := 1) F (metX1_min l D dI bd sz ln sy wt qu co (min ((min 100 (((co (((7 * i) - 7) + j)) + 1)))) (((co (((7 * i) + j) - 1)) + 1))) ((co (((7 * i) + j) - 8)) + 1) (by omega) (by omega)) (lw_V q267 q269 qs19 q25 q270) ⟨rfl, rfl⟩ (by decide +kernel) ⟨by decide, by decide⟩ hK hP rfl rfl rfl rfl hl rfl (Nat.le_of_ble_eq_true rfl) dX1_step_148 ⟨by decide, by decide⟩ (fun r148 hr148 => ?_)
                  have hr148 : r148 = (nI (min ((min ((min 100 (((co (((7 * i) - 7) + j)) + 1)))) (((co (((7 * i) + j) - 1)) + 1)))) (((co (((7 * i) + j) - 8)) + 1)))) := hr148
                  subst hr148
                  refine lv_istore (lv' := [(4, .int (nI (min ((min ((min 100 (((co (((7 * i) - 7) + j)) + 1)))) (((co (((7 * i) + j) - 1)) + 1)))) (((co (((7 * i) + j) - 8)) + 1))))), (6, .int (nI 0)), (5, .int (nI 1)), (0, .ref (bd 0)), (1, .int (nI w)), (2, .int (nI i)), (3, .int (nI j))]) hx hb dX1_step_151 hl (by decide) rfl (fun ls hl => ?_)
                  refine lv_iload hx hb dX1_step_153 (lv_at hl 0 rfl) ?_
                  exact rt_ri hx hb hr hlk dX1_step_155 (congrArg nI (by unfold stF fsC; dsimp only; (repeat' split) <;> omega))
                · exact absurd rfl c138
              · refine lv_iconst (v := (nI 1)) hx hb dX1_step_112 (by decide) ?_
                refine lv_goto (tgt := 117) hx hb dX1_step_113 (by decide) ?_
                refine lv_istore (lv' := [(6, .int (nI 1)), (4, .int (nI (min ((min 100 (((co (((7 * i) - 7) + j)) + 1)))) (((co (((7 * i) + j) - 1)) + 1))))), (5, .int (nI 1)), (0, .ref (bd 0)), (1, .int (nI w)), (2, .int (nI i)), (3, .int (nI j))]) hx hb dX1_step_117 hl (by decide) rfl (fun ls hl => ?_)
                refine lv_aload_n hx hb dX1_step_119 rfl (lv_at hl 3 rfl) ?_
                refine lv_iload hx hb dX1_step_120 (lv_at hl 1 rfl) ?_
                refine lv_aload_n hx hb dX1_step_122 rfl (lv_at hl 3 rfl) ?_
                refine gm F hK hP rfl 5 (by decide) q204 rfl dX1_step_123 ?_
                refine lv_bipush (v := (nI 7)) hx hb dX1_step_126 (by decide) ?_
                refine lv_iload_n hx hb dX1_step_128 rfl (lv_at hl 5 rfl) ?_
                refine nv_imul hx hb dX1_step_129 ?_
                refine lv_iload_n hx hb dX1_step_130 rfl (lv_at hl 6 rfl) ?_
                refine nv_iadd hx hb dX1_step_131 ?_
                refine lv_bipush (v := (nI 8)) hx hb dX1_step_132 (by decide) ?_
                refine nv_isub hx hb (by omega) dX1_step_134 ?_
                refine nv_iald (f := co) (n := 49) hx hb hK hP 5 0 rfl rfl (by omega) (by decide) dX1_step_135 ?_
                have hbd7 := hco (((7 * i) + j) - 8)
                refine lv_iload hx hb dX1_step_136 (lv_at hl 0 rfl) ?_
                refine nv_zeq (tgt := 145) hx hb dX1_step_138 (by decide) (by omega) (fun c138 => ?_) (fun c138 => ?_)
                · exact absurd c138 (by decide)
                · refine lv_iconst (v := (nI 0)) hx hb dX1_step_141 (by decide) ?_
                  refine lv_goto (tgt := 147) hx hb dX1_step_142 (by decide) ?_
                  refine nv_iadd hx hb dX1_step_147 ?_
                  refine nc_ro (n := 2) (q0 := 0) (ci := 1) F (metX1_min l D dI bd sz ln sy wt qu co (min ((min 100 (((co (((7 * i) - 7) + j)) + 1)))) (((co (((7 * i) + j) - 1)) + 1))) ((co (((7 * i) + j) - 8)) + 0) (by omega) (by omega)) (lw_V q267 q269 qs19 q25 q270) ⟨rfl, rfl⟩ (by decide +kernel) ⟨by decide, by decide⟩ hK hP rfl rfl rfl rfl hl rfl (Nat.le_of_ble_eq_true rfl) dX1_step_148 ⟨by decide, by decide⟩ (fun r148 hr148 => ?_)
                  have hr148 : r148 = (nI (min ((min ((min 100 (((co (((7 * i) - 7) + j)) + 1)))) (((co (((7 * i) + j) - 1)) + 1)))) (((co (((7 * i) + j) - 8)) + 0)))) := hr148
                  subst hr148
                  refine lv_istore (lv' := [(4, .int (nI (min ((min ((min 100 (((co (((7 * i) - 7) + j)) + 1)))) (((co (((7 * i) + j) - 1)) + 1)))) (((co (((7 * i) + j) - 8)) + 0))))), (6, .int (nI 1)), (5, .int (nI 1)), (0, .ref (bd 0)), (1, .int (nI w)), (2, .int (nI i)), (3, .int (nI j))]) hx hb dX1_step_151 hl (by decide) rfl (fun ls hl => ?_)
                  refine lv_iload hx hb dX1_step_153 (lv_at hl 0 rfl) ?_
                  exact rt_ri hx hb hr hlk dX1_step_155 (congrArg nI (by unfold stF fsC; dsimp only; (repeat' split) <;> omega))
        · exact absurd c66 (by omega)
  · refine lv_iconst (v := (nI 2)) hx hb dX1_step_9 (by decide) ?_
    refine lv_goto (tgt := 14) hx hb dX1_step_10 (by decide) ?_
    refine lv_istore (lv' := [(5, .int (nI 2)), (4, .int (nI 100)), (0, .ref (bd 0)), (1, .int (nI w)), (2, .int (nI i)), (3, .int (nI j))]) hx hb dX1_step_14 hl (by decide) rfl (fun ls hl => ?_)
    refine lv_iload_n hx hb dX1_step_16 rfl (lv_at hl 4 rfl) ?_
    refine nv_zle (tgt := 45) hx hb dX1_step_17 (by decide) (by omega) (fun c17 => ?_) (fun c17 => ?_)
    · exact absurd c17 (by omega)
    · refine lv_aload_n hx hb dX1_step_20 rfl (lv_at hl 2 rfl) ?_
      refine lv_iload hx hb dX1_step_21 (lv_at hl 1 rfl) ?_
      refine lv_aload_n hx hb dX1_step_23 rfl (lv_at hl 2 rfl) ?_
      refine gm F hK hP rfl 5 (by decide) q204 rfl dX1_step_24 ?_
      refine lv_bipush (v := (nI 7)) hx hb dX1_step_27 (by decide) ?_
      refine lv_iload_n hx hb dX1_step_29 rfl (lv_at hl 4 rfl) ?_
      refine nv_imul hx hb dX1_step_30 ?_
      refine lv_bipush (v := (nI 7)) hx hb dX1_step_31 (by decide) ?_
      refine nv_isub hx hb (by omega) dX1_step_33 ?_
      refine lv_iload_n hx hb dX1_step_34 rfl (lv_at hl 5 rfl) ?_
      refine nv_iadd hx hb dX1_step_35 ?_
      refine nv_iald (f := co) (n := 49) hx hb hK hP 5 0 rfl rfl (by omega) (by decide) dX1_step_36 ?_
      have hbd8 := hco (((7 * i) - 7) + j)
      refine lv_iload hx hb dX1_step_37 (lv_at hl 0 rfl) ?_
      refine nv_iadd hx hb dX1_step_39 ?_
      refine nc_ro (n := 2) (q0 := 0) (ci := 1) F (metX1_min l D dI bd sz ln sy wt qu co 100 ((co (((7 * i) - 7) + j)) + 2) (by omega) (by omega)) (lw_V q267 q269 qs19 q25 q270) ⟨rfl, rfl⟩ (by decide +kernel) ⟨by decide, by decide⟩ hK hP rfl rfl rfl rfl hl rfl (Nat.le_of_ble_eq_true rfl) dX1_step_40 ⟨by decide, by decide⟩ (fun r40 hr40 => ?_)
      have hr40 : r40 = (nI (min 100 (((co (((7 * i) - 7) + j)) + 2)))) := hr40
      subst hr40
      refine lv_istore (lv' := [(4, .int (nI (min 100 (((co (((7 * i) - 7) + j)) + 2))))), (5, .int (nI 2)), (0, .ref (bd 0)), (1, .int (nI w)), (2, .int (nI i)), (3, .int (nI j))]) hx hb dX1_step_43 hl (by decide) rfl (fun ls hl => ?_)
      refine lv_iload_n hx hb dX1_step_45 rfl (lv_at hl 5 rfl) ?_
      refine nv_zle (tgt := 80) hx hb dX1_step_46 (by decide) (by omega) (fun c46 => ?_) (fun c46 => ?_)
      · refine lv_iload_n hx hb dX1_step_80 rfl (lv_at hl 4 rfl) ?_
        refine nv_zle (tgt := 153) hx hb dX1_step_81 (by decide) (by omega) (fun c81 => ?_) (fun c81 => ?_)
        · exact absurd c81 (by omega)
        · refine lv_iload_n hx hb dX1_step_84 rfl (lv_at hl 5 rfl) ?_
          refine nv_zle (tgt := 153) hx hb dX1_step_85 (by decide) (by omega) (fun c85 => ?_) (fun c85 => ?_)
          · refine lv_iload hx hb dX1_step_153 (lv_at hl 0 rfl) ?_
            exact rt_ri hx hb hr hlk dX1_step_155 (congrArg nI (by unfold stF fsC; dsimp only; (repeat' split) <;> omega))
          · exact absurd c85 (by omega)
      · refine lv_aload_n hx hb dX1_step_49 rfl (lv_at hl 2 rfl) ?_
        refine lv_iload hx hb dX1_step_50 (lv_at hl 0 rfl) ?_
        refine lv_aload_n hx hb dX1_step_52 rfl (lv_at hl 2 rfl) ?_
        refine gm F hK hP rfl 5 (by decide) q204 rfl dX1_step_53 ?_
        refine lv_bipush (v := (nI 7)) hx hb dX1_step_56 (by decide) ?_
        refine lv_iload_n hx hb dX1_step_58 rfl (lv_at hl 4 rfl) ?_
        refine nv_imul hx hb dX1_step_59 ?_
        refine lv_iload_n hx hb dX1_step_60 rfl (lv_at hl 5 rfl) ?_
        refine nv_iadd hx hb dX1_step_61 ?_
        refine lv_iconst (v := (nI 1)) hx hb dX1_step_62 (by decide) ?_
        refine nv_isub hx hb (by omega) dX1_step_63 ?_
        refine nv_iald (f := co) (n := 49) hx hb hK hP 5 0 rfl rfl (by omega) (by decide) dX1_step_64 ?_
        have hbd9 := hco (((7 * i) + j) - 1)
        refine lv_iload_n hx hb dX1_step_65 rfl (lv_at hl 4 rfl) ?_
        refine nv_zne (tgt := 73) hx hb dX1_step_66 (by decide) (by omega) (fun c66 => ?_) (fun c66 => ?_)
        · refine lv_iconst (v := (nI 1)) hx hb dX1_step_73 (by decide) ?_
          refine nv_iadd hx hb dX1_step_74 ?_
          refine nc_ro (n := 2) (q0 := 0) (ci := 1) F (metX1_min l D dI bd sz ln sy wt qu co (min 100 (((co (((7 * i) - 7) + j)) + 2))) ((co (((7 * i) + j) - 1)) + 1) (by omega) (by omega)) (lw_V q267 q269 qs19 q25 q270) ⟨rfl, rfl⟩ (by decide +kernel) ⟨by decide, by decide⟩ hK hP rfl rfl rfl rfl hl rfl (Nat.le_of_ble_eq_true rfl) dX1_step_75 ⟨by decide, by decide⟩ (fun r75 hr75 => ?_)
          have hr75 : r75 = (nI (min ((min 100 (((co (((7 * i) - 7) + j)) + 2)))) (((co (((7 * i) + j) - 1)) + 1)))) := hr75
          subst hr75
          refine lv_istore (lv' := [(4, .int (nI (min ((min 100 (((co (((7 * i) - 7) + j)) + 2)))) (((co (((7 * i) + j) - 1)) + 1))))), (5, .int (nI 2)), (0, .ref (bd 0)), (1, .int (nI w)), (2, .int (nI i)), (3, .int (nI j))]) hx hb dX1_step_78 hl (by decide) rfl (fun ls hl => ?_)
          refine lv_iload_n hx hb dX1_step_80 rfl (lv_at hl 4 rfl) ?_
          refine nv_zle (tgt := 153) hx hb dX1_step_81 (by decide) (by omega) (fun c81 => ?_) (fun c81 => ?_)
          · exact absurd c81 (by omega)
          · refine lv_iload_n hx hb dX1_step_84 rfl (lv_at hl 5 rfl) ?_
            refine nv_zle (tgt := 153) hx hb dX1_step_85 (by decide) (by omega) (fun c85 => ?_) (fun c85 => ?_)
            · exact absurd c85 (by omega)
            · refine lv_aload_n hx hb dX1_step_88 rfl (lv_at hl 2 rfl) ?_
              refine gm F hK hP rfl 4 (by decide) q203 rfl dX1_step_89 ?_
              refine lv_iload_n hx hb dX1_step_92 rfl (lv_at hl 4 rfl) ?_
              refine lv_iconst (v := (nI 1)) hx hb dX1_step_93 (by decide) ?_
              refine nv_isub hx hb (by omega) dX1_step_94 ?_
              refine nv_iald (f := qu) (n := 7) hx hb hK hP 4 0 rfl rfl (by omega) (by decide) dX1_step_95 ?_
              have hbd10 := hqu (i - 1)
              refine lv_aload_n hx hb dX1_step_96 rfl (lv_at hl 2 rfl) ?_
              refine gm F hK hP rfl 1 (by decide) q200 rfl dX1_step_97 ?_
              refine lv_bipush (v := (nI 6)) hx hb dX1_step_100 (by decide) ?_
              refine lv_iload_n hx hb dX1_step_102 rfl (lv_at hl 3 rfl) ?_
              refine nv_imul hx hb dX1_step_103 ?_
              refine lv_iload_n hx hb dX1_step_104 rfl (lv_at hl 5 rfl) ?_
              refine nv_iadd hx hb dX1_step_105 ?_
              refine lv_iconst (v := (nI 1)) hx hb dX1_step_106 (by decide) ?_
              refine nv_isub hx hb (by omega) dX1_step_107 ?_
              refine nv_iald (f := sy) (n := 60) hx hb hK hP 2 0 rfl rfl (by omega) (by decide) dX1_step_108 ?_
              have hbd11 := hsy (((6 * w) + j) - 1)
              refine nv_cne (tgt := 116) hx hb dX1_step_109 (by decide) (by omega) (by omega) (fun c109 => ?_) (fun c109 => ?_)
              · refine lv_iconst (v := (nI 0)) hx hb dX1_step_116 (by decide) ?_
                refine lv_istore (lv' := [(6, .int (nI 0)), (4, .int (nI (min ((min 100 (((co (((7 * i) - 7) + j)) + 2)))) (((co (((7 * i) + j) - 1)) + 1))))), (5, .int (nI 2)), (0, .ref (bd 0)), (1, .int (nI w)), (2, .int (nI i)), (3, .int (nI j))]) hx hb dX1_step_117 hl (by decide) rfl (fun ls hl => ?_)
                refine lv_aload_n hx hb dX1_step_119 rfl (lv_at hl 3 rfl) ?_
                refine lv_iload hx hb dX1_step_120 (lv_at hl 1 rfl) ?_
                refine lv_aload_n hx hb dX1_step_122 rfl (lv_at hl 3 rfl) ?_
                refine gm F hK hP rfl 5 (by decide) q204 rfl dX1_step_123 ?_
                refine lv_bipush (v := (nI 7)) hx hb dX1_step_126 (by decide) ?_
                refine lv_iload_n hx hb dX1_step_128 rfl (lv_at hl 5 rfl) ?_
                refine nv_imul hx hb dX1_step_129 ?_
                refine lv_iload_n hx hb dX1_step_130 rfl (lv_at hl 6 rfl) ?_
                refine nv_iadd hx hb dX1_step_131 ?_
                refine lv_bipush (v := (nI 8)) hx hb dX1_step_132 (by decide) ?_
                refine nv_isub hx hb (by omega) dX1_step_134 ?_
                refine nv_iald (f := co) (n := 49) hx hb hK hP 5 0 rfl rfl (by omega) (by decide) dX1_step_135 ?_
                have hbd12 := hco (((7 * i) + j) - 8)
                refine lv_iload hx hb dX1_step_136 (lv_at hl 0 rfl) ?_
                refine nv_zeq (tgt := 145) hx hb dX1_step_138 (by decide) (by omega) (fun c138 => ?_) (fun c138 => ?_)
                · refine lv_iload hx hb dX1_step_145 (lv_at hl 2 rfl) ?_
                  refine nv_iadd hx hb dX1_step_147 ?_
                  refine nc_ro (n := 2) (q0 := 0) (ci := 1) F (metX1_min l D dI bd sz ln sy wt qu co (min ((min 100 (((co (((7 * i) - 7) + j)) + 2)))) (((co (((7 * i) + j) - 1)) + 1))) ((co (((7 * i) + j) - 8)) + 2) (by omega) (by omega)) (lw_V q267 q269 qs19 q25 q270) ⟨rfl, rfl⟩ (by decide +kernel) ⟨by decide, by decide⟩ hK hP rfl rfl rfl rfl hl rfl (Nat.le_of_ble_eq_true rfl) dX1_step_148 ⟨by decide, by decide⟩ (fun r148 hr148 => ?_)
                  have hr148 : r148 = (nI (min ((min ((min 100 (((co (((7 * i) - 7) + j)) + 2)))) (((co (((7 * i) + j) - 1)) + 1)))) (((co (((7 * i) + j) - 8)) + 2)))) := hr148
                  subst hr148
                  refine lv_istore (lv' := [(4, .int (nI (min ((min ((min 100 (((co (((7 * i) - 7) + j)) + 2)))) (((co (((7 * i) + j) - 1)) + 1)))) (((co (((7 * i) + j) - 8)) + 2))))), (6, .int (nI 0)), (5, .int (nI 2)), (0, .ref (bd 0)), (1, .int (nI w)), (2, .int (nI i)), (3, .int (nI j))]) hx hb dX1_step_151 hl (by decide) rfl (fun ls hl => ?_)
                  refine lv_iload hx hb dX1_step_153 (lv_at hl 0 rfl) ?_
                  exact rt_ri hx hb hr hlk dX1_step_155 (congrArg nI (by unfold stF fsC; dsimp only; (repeat' split) <;> omega))
                · exact absurd rfl c138
              · refine lv_iconst (v := (nI 1)) hx hb dX1_step_112 (by decide) ?_
                refine lv_goto (tgt := 117) hx hb dX1_step_113 (by decide) ?_
                refine lv_istore (lv' := [(6, .int (nI 1)), (4, .int (nI (min ((min 100 (((co (((7 * i) - 7) + j)) + 2)))) (((co (((7 * i) + j) - 1)) + 1))))), (5, .int (nI 2)), (0, .ref (bd 0)), (1, .int (nI w)), (2, .int (nI i)), (3, .int (nI j))]) hx hb dX1_step_117 hl (by decide) rfl (fun ls hl => ?_)
                refine lv_aload_n hx hb dX1_step_119 rfl (lv_at hl 3 rfl) ?_
                refine lv_iload hx hb dX1_step_120 (lv_at hl 1 rfl) ?_
                refine lv_aload_n hx hb dX1_step_122 rfl (lv_at hl 3 rfl) ?_
                refine gm F hK hP rfl 5 (by decide) q204 rfl dX1_step_123 ?_
                refine lv_bipush (v := (nI 7)) hx hb dX1_step_126 (by decide) ?_
                refine lv_iload_n hx hb dX1_step_128 rfl (lv_at hl 5 rfl) ?_
                refine nv_imul hx hb dX1_step_129 ?_
                refine lv_iload_n hx hb dX1_step_130 rfl (lv_at hl 6 rfl) ?_
                refine nv_iadd hx hb dX1_step_131 ?_
                refine lv_bipush (v := (nI 8)) hx hb dX1_step_132 (by decide) ?_
                refine nv_isub hx hb (by omega) dX1_step_134 ?_
                refine nv_iald (f := co) (n := 49) hx hb hK hP 5 0 rfl rfl (by omega) (by decide) dX1_step_135 ?_
                have hbd13 := hco (((7 * i) + j) - 8)
                refine lv_iload hx hb dX1_step_136 (lv_at hl 0 rfl) ?_
                refine nv_zeq (tgt := 145) hx hb dX1_step_138 (by decide) (by omega) (fun c138 => ?_) (fun c138 => ?_)
                · exact absurd c138 (by decide)
                · refine lv_iconst (v := (nI 0)) hx hb dX1_step_141 (by decide) ?_
                  refine lv_goto (tgt := 147) hx hb dX1_step_142 (by decide) ?_
                  refine nv_iadd hx hb dX1_step_147 ?_
                  refine nc_ro (n := 2) (q0 := 0) (ci := 1) F (metX1_min l D dI bd sz ln sy wt qu co (min ((min 100 (((co (((7 * i) - 7) + j)) + 2)))) (((co (((7 * i) + j) - 1)) + 1))) ((co (((7 * i) + j) - 8)) + 0) (by omega) (by omega)) (lw_V q267 q269 qs19 q25 q270) ⟨rfl, rfl⟩ (by decide +kernel) ⟨by decide, by decide⟩ hK hP rfl rfl rfl rfl hl rfl (Nat.le_of_ble_eq_true rfl) dX1_step_148 ⟨by decide, by decide⟩ (fun r148 hr148 => ?_)
                  have hr148 : r148 = (nI (min ((min ((min 100 (((co (((7 * i) - 7) + j)) + 2)))) (((co (((7 * i) + j) - 1)) + 1)))) (((co (((7 * i) + j) - 8)) + 0)))) := hr148
                  subst hr148
                  refine lv_istore (lv' := [(4, .int (nI (min ((min ((min 100 (((co (((7 * i) - 7) + j)) + 2)))) (((co (((7 * i) + j) - 1)) + 1)))) (((co (((7 * i) + j) - 8)) + 0))))), (6, .int (nI 1)), (5, .int (nI 2)), (0, .ref (bd 0)), (1, .int (nI w)), (2, .int (nI i)), (3, .int (nI j))]) hx hb dX1_step_151 hl (by decide) rfl (fun ls hl => ?_)
                  refine lv_iload hx hb dX1_step_153 (lv_at hl 0 rfl) ?_
                  exact rt_ri hx hb hr hlk dX1_step_155 (congrArg nI (by unfold stF fsC; dsimp only; (repeat' split) <;> omega))
        · exact absurd c66 (by omega)
set_option maxHeartbeats 4000000 in
/-- exact(w) -/
theorem metX1_exact (l : Launch) (D : va_G) (dI : ClassId) (bd : Nat → Nat) (sz : Nat) (ln sy wt qu co : Nat → Nat) (w : Nat) (hI : mI sz ln wt sy qu) (hw : w < 10) : Met l yX1_exact (ws_ yX1_exact cX1_exact 4 (some .boolean)) (rmN 0 0) (PR D [(dI, .int)] (mw dI bd sz ln sy wt qu co) [.ref (bd 0), .int (nI w)]) (vp_Si (fun r => r = (nI (Bool.toNat (exB sz ln sy qu w))))) 0 0 (fun _ => False) := by
  refine en_ro (by decide) (Nat.le_of_ble_eq_true rfl) ?_
  intro p e s m below meth c F hr hlk hK hP ls hl
  have hx := F.1
  have hb := F.2.1
  have F : CallFix p m c cX1_exact 4 s [.ref (bd 0), .int (nI w)].toArray lw_all RX1 := F
  have hl : lv_has ls 4 [(0, .ref (bd 0)), (1, .int (nI w))] := hl
  obtain ⟨hs6, hln, hwt, hsy, hqu⟩ := id hI
  refine lv_aload_n hx hb dX1_exact_0 rfl (lv_at hl 0 rfl) ?_
  refine gm F hK hP rfl 0 (by decide) q199 rfl dX1_exact_1 ?_
  refine lv_iload_n hx hb dX1_exact_4 rfl (lv_at hl 1 rfl) ?_
  refine nv_iald (f := ln) (n := 10) hx hb hK hP 1 0 rfl rfl (by omega) (by decide) dX1_exact_5 ?_
  have hbd1 := hln w
  refine lv_aload_n hx hb dX1_exact_6 rfl (lv_at hl 0 rfl) ?_
  refine gm F hK hP rfl 3 (by decide) q202 rfl dX1_exact_7 ?_
  refine nv_cne (tgt := 17) hx hb dX1_exact_10 (by decide) (by omega) (by omega) (fun c10 => ?_) (fun c10 => ?_)
  · refine lv_iconst (v := (nI 0)) hx hb dX1_exact_17 (by decide) ?_
    refine lv_istore_n (lv' := [(2, .int (nI 0)), (0, .ref (bd 0)), (1, .int (nI w))]) hx hb dX1_exact_18 rfl hl (by decide) rfl (fun ls hl => ?_)
    refine lv_iconst (v := (nI 0)) hx hb dX1_exact_19 (by decide) ?_
    refine lv_istore_n (lv' := [(3, .int (nI 0)), (2, .int (nI 0)), (0, .ref (bd 0)), (1, .int (nI w))]) hx hb dX1_exact_20 rfl hl (by decide) rfl (fun ls hl => ?_)
    refine lv_iload_n hx hb dX1_exact_21 rfl (lv_at hl 0 rfl) ?_
    refine lv_aload_n hx hb dX1_exact_22 rfl (lv_at hl 2 rfl) ?_
    refine gm F hK hP rfl 3 (by decide) q202 rfl dX1_exact_23 ?_
    refine nv_cge (tgt := 65) hx hb dX1_exact_26 (by decide) (by omega) (by omega) (fun c26 => ?_) (fun c26 => ?_)
    · refine lv_iload_n hx hb dX1_exact_65 rfl (lv_at hl 1 rfl) ?_
      exact rt_rz hx hb hr hlk dX1_exact_66 rfl (by rw [exB_f1 c10]; rfl)
    · refine lv_iload_n hx hb dX1_exact_29 rfl (lv_at hl 1 rfl) ?_
      refine nv_zeq (tgt := 65) hx hb dX1_exact_30 (by decide) (by omega) (fun c30 => ?_) (fun c30 => ?_)
      · refine lv_iload_n hx hb dX1_exact_65 rfl (lv_at hl 1 rfl) ?_
        exact rt_rz hx hb hr hlk dX1_exact_66 rfl (by rw [exB_f1 c10]; rfl)
      · exact absurd rfl c30
  · refine lv_iconst (v := (nI 1)) hx hb dX1_exact_13 (by decide) ?_
    refine lv_goto (tgt := 18) hx hb dX1_exact_14 (by decide) ?_
    refine lv_istore_n (lv' := [(2, .int (nI 1)), (0, .ref (bd 0)), (1, .int (nI w))]) hx hb dX1_exact_18 rfl hl (by decide) rfl (fun ls hl => ?_)
    refine lv_iconst (v := (nI 0)) hx hb dX1_exact_19 (by decide) ?_
    refine lv_istore_n (lv' := [(3, .int (nI 0)), (2, .int (nI 1)), (0, .ref (bd 0)), (1, .int (nI w))]) hx hb dX1_exact_20 rfl hl (by decide) rfl (fun ls hl => ?_)
    refine lp_r2 (I := fun (k : Nat) (b : Bool) ls => lv_has ls 4 [(0, .ref (bd 0)), (1, .int (nI w)), (2, .int (nI (Bool.toNat b))), (3, .int (nI k))] ∧ (k ≤ sz) ∧ (b = true → ∀ q, q < k → sy (6 * w + q) = qu q) ∧ (b = false → exB sz ln sy qu w = false)) (μ := fun (k : Nat) (b : Bool) => sz - k) ?_ 0 true _ ⟨lv_sub hl [2, 3, 1, 0] rfl, (Nat.zero_le _), (fun _ q hq => absurd hq (Nat.not_lt_zero q)), (fun h => absurd h (by decide))⟩
    intro k b ls hI0 ih21
    obtain ⟨hl, hk, hin, hout⟩ := hI0
    have hl : lv_has ls 4 [(0, .ref (bd 0)), (1, .int (nI w)), (2, .int (nI (Bool.toNat b))), (3, .int (nI k))] := hl
    refine lv_iload_n hx hb dX1_exact_21 rfl (lv_at hl 3 rfl) ?_
    refine lv_aload_n hx hb dX1_exact_22 rfl (lv_at hl 0 rfl) ?_
    refine gm F hK hP rfl 3 (by decide) q202 rfl dX1_exact_23 ?_
    refine nv_cge (tgt := 65) hx hb dX1_exact_26 (by decide) (by omega) (by omega) (fun c26 => ?_) (fun c26 => ?_)
    · refine lv_iload_n hx hb dX1_exact_65 rfl (lv_at hl 2 rfl) ?_
      exact rt_rz hx hb hr hlk dX1_exact_66 (nv_nz _) (ex_end hin hout c10 c26)
    · refine lv_iload_n hx hb dX1_exact_29 rfl (lv_at hl 2 rfl) ?_
      refine nv_beq (tgt := 65) hx hb dX1_exact_30 (by decide) (fun c30 => ?_) (fun c30 => ?_)
      · refine lv_iload_n hx hb dX1_exact_65 rfl (lv_at hl 2 rfl) ?_
        exact rt_rz hx hb hr hlk dX1_exact_66 (nv_nz _) (by rw [hout c30, c30])
      · refine lv_aload_n hx hb dX1_exact_33 rfl (lv_at hl 0 rfl) ?_
        refine gm F hK hP rfl 1 (by decide) q200 rfl dX1_exact_34 ?_
        refine lv_bipush (v := (nI 6)) hx hb dX1_exact_37 (by decide) ?_
        refine lv_iload_n hx hb dX1_exact_39 rfl (lv_at hl 1 rfl) ?_
        refine nv_imul hx hb dX1_exact_40 ?_
        refine lv_iload_n hx hb dX1_exact_41 rfl (lv_at hl 3 rfl) ?_
        refine nv_iadd hx hb dX1_exact_42 ?_
        refine nv_iald (f := sy) (n := 60) hx hb hK hP 2 0 rfl rfl (by omega) (by decide) dX1_exact_43 ?_
        have hbd2 := hsy ((6 * w) + k)
        refine lv_aload_n hx hb dX1_exact_44 rfl (lv_at hl 0 rfl) ?_
        refine gm F hK hP rfl 4 (by decide) q203 rfl dX1_exact_45 ?_
        refine lv_iload_n hx hb dX1_exact_48 rfl (lv_at hl 3 rfl) ?_
        refine nv_iald (f := qu) (n := 7) hx hb hK hP 4 0 rfl rfl (by omega) (by decide) dX1_exact_49 ?_
        have hbd3 := hqu k
        refine nv_cne (tgt := 57) hx hb dX1_exact_50 (by decide) (by omega) (by omega) (fun c50 => ?_) (fun c50 => ?_)
        · refine lv_iconst (v := (nI 0)) hx hb dX1_exact_57 (by decide) ?_
          refine lv_istore_n (lv' := [(2, .int (nI 0)), (0, .ref (bd 0)), (1, .int (nI w)), (3, .int (nI k))]) hx hb dX1_exact_58 rfl hl (by decide) rfl (fun ls hl => ?_)
          refine lv_iinc (v := nI (k + 1)) (lv' := [(3, .int (nI (k + 1))), (2, .int (nI 0)), (0, .ref (bd 0)), (1, .int (nI w))]) hx hb dX1_exact_59 hl (k := 3) rfl (nv_inc _) (by decide) rfl (fun ls hl => ?_)
          refine lv_goto (tgt := 21) hx hb dX1_exact_62 (by decide) ?_
          exact ih21 (k + 1) false _ (by first | omega | (dsimp only; omega)) ⟨lv_sub hl [2, 3, 1, 0] rfl, (by omega), (fun h => absurd h (by decide)), (fun _ => exB_f2 c26 c50)⟩
        · refine lv_iconst (v := (nI 1)) hx hb dX1_exact_53 (by decide) ?_
          refine lv_goto (tgt := 58) hx hb dX1_exact_54 (by decide) ?_
          refine lv_istore_n (lv' := [(2, .int (nI 1)), (0, .ref (bd 0)), (1, .int (nI w)), (3, .int (nI k))]) hx hb dX1_exact_58 rfl hl (by decide) rfl (fun ls hl => ?_)
          refine lv_iinc (v := nI (k + 1)) (lv' := [(3, .int (nI (k + 1))), (2, .int (nI 1)), (0, .ref (bd 0)), (1, .int (nI w))]) hx hb dX1_exact_59 hl (k := 3) rfl (nv_inc _) (by decide) rfl (fun ls hl => ?_)
          refine lv_goto (tgt := 21) hx hb dX1_exact_62 (by decide) ?_
          exact ih21 (k + 1) true _ (by first | omega | (dsimp only; omega)) ⟨lv_sub hl [2, 3, 1, 0] rfl, (by omega), (fun _ => lt_s (hin c30) c50), (fun h => absurd h (by decide))⟩
set_option maxHeartbeats 4000000 in
/-- shared(v, w) -/
theorem metX1_shared (l : Launch) (D : va_G) (dI : ClassId) (bd : Nat → Nat) (sz : Nat) (ln sy wt qu co : Nat → Nat) (v : Nat) (w : Nat) (hI : mI sz ln wt sy qu) (hv : v < 10) (hw : w < 10) : Met l yX1_shared (ws_ yX1_shared cX1_shared 4 (some .int)) (rmN 0 0) (PR D [(dI, .int)] (mw dI bd sz ln sy wt qu co) [.ref (bd 0), .int (nI v), .int (nI w)]) (vp_Si (fun r => ∃ q, r = nI q ∧ lcR ln sy v w q)) 0 0 (fun _ => False) := by
  refine en_ro (by decide) (Nat.le_of_ble_eq_true rfl) ?_
  intro p e s m below meth c F hr hlk hK hP ls hl
  have hx := F.1
  have hb := F.2.1
  have F : CallFix p m c cX1_shared 4 s [.ref (bd 0), .int (nI v), .int (nI w)].toArray lw_all RX1 := F
  have hl : lv_has ls 4 [(0, .ref (bd 0)), (1, .int (nI v)), (2, .int (nI w))] := hl
  obtain ⟨hs6, hln, hwt, hsy, hqu⟩ := id hI
  refine lv_iconst (v := (nI 0)) hx hb dX1_shared_0 (by decide) ?_
  refine lv_istore_n (lv' := [(3, .int (nI 0)), (0, .ref (bd 0)), (1, .int (nI v)), (2, .int (nI w))]) hx hb dX1_shared_1 rfl hl (by decide) rfl (fun ls hl => ?_)
  refine lp_r1 (I := fun (k : Nat) ls => lv_has ls 4 [(0, .ref (bd 0)), (1, .int (nI v)), (2, .int (nI w)), (3, .int (nI k))] ∧ (k ≤ ln v) ∧ (k ≤ ln w) ∧ (∀ i, i < k → sy (6 * v + i) = sy (6 * w + i))) (μ := fun (k : Nat) => ln v - k) ?_ 0 _ ⟨lv_sub hl [1, 2, 3, 0] rfl, (Nat.zero_le _), (Nat.zero_le _), (fun i hi => absurd hi (Nat.not_lt_zero i))⟩
  intro k ls hI0 ih2
  obtain ⟨hl, hk1, hk2, hin⟩ := hI0
  have hl : lv_has ls 4 [(0, .ref (bd 0)), (1, .int (nI v)), (2, .int (nI w)), (3, .int (nI k))] := hl
  have hlv := hln v
  have hlw := hln w
  refine lv_iload_n hx hb dX1_shared_2 rfl (lv_at hl 3 rfl) ?_
  refine lv_aload_n hx hb dX1_shared_3 rfl (lv_at hl 0 rfl) ?_
  refine gm F hK hP rfl 0 (by decide) q199 rfl dX1_shared_4 ?_
  refine lv_iload_n hx hb dX1_shared_7 rfl (lv_at hl 1 rfl) ?_
  refine nv_iald (f := ln) (n := 10) hx hb hK hP 1 0 rfl rfl (by omega) (by decide) dX1_shared_8 ?_
  have hbd1 := hln v
  refine nv_cge (tgt := 53) hx hb dX1_shared_9 (by decide) (by omega) (by omega) (fun c9 => ?_) (fun c9 => ?_)
  · refine lv_iload_n hx hb dX1_shared_53 rfl (lv_at hl 3 rfl) ?_
    exact rt_ri hx hb hr hlk dX1_shared_54 ⟨k, rfl, hk1, hk2, hin, Or.inl (by omega)⟩
  · refine lv_iload_n hx hb dX1_shared_12 rfl (lv_at hl 3 rfl) ?_
    refine lv_aload_n hx hb dX1_shared_13 rfl (lv_at hl 0 rfl) ?_
    refine gm F hK hP rfl 0 (by decide) q199 rfl dX1_shared_14 ?_
    refine lv_iload_n hx hb dX1_shared_17 rfl (lv_at hl 2 rfl) ?_
    refine nv_iald (f := ln) (n := 10) hx hb hK hP 1 0 rfl rfl (by omega) (by decide) dX1_shared_18 ?_
    have hbd2 := hln w
    refine nv_cge (tgt := 53) hx hb dX1_shared_19 (by decide) (by omega) (by omega) (fun c19 => ?_) (fun c19 => ?_)
    · refine lv_iload_n hx hb dX1_shared_53 rfl (lv_at hl 3 rfl) ?_
      exact rt_ri hx hb hr hlk dX1_shared_54 ⟨k, rfl, hk1, hk2, hin, Or.inr (Or.inl (by omega))⟩
    · refine lv_aload_n hx hb dX1_shared_22 rfl (lv_at hl 0 rfl) ?_
      refine gm F hK hP rfl 1 (by decide) q200 rfl dX1_shared_23 ?_
      refine lv_bipush (v := (nI 6)) hx hb dX1_shared_26 (by decide) ?_
      refine lv_iload_n hx hb dX1_shared_28 rfl (lv_at hl 1 rfl) ?_
      refine nv_imul hx hb dX1_shared_29 ?_
      refine lv_iload_n hx hb dX1_shared_30 rfl (lv_at hl 3 rfl) ?_
      refine nv_iadd hx hb dX1_shared_31 ?_
      refine nv_iald (f := sy) (n := 60) hx hb hK hP 2 0 rfl rfl (by omega) (by decide) dX1_shared_32 ?_
      have hbd3 := hsy ((6 * v) + k)
      refine lv_aload_n hx hb dX1_shared_33 rfl (lv_at hl 0 rfl) ?_
      refine gm F hK hP rfl 1 (by decide) q200 rfl dX1_shared_34 ?_
      refine lv_bipush (v := (nI 6)) hx hb dX1_shared_37 (by decide) ?_
      refine lv_iload_n hx hb dX1_shared_39 rfl (lv_at hl 2 rfl) ?_
      refine nv_imul hx hb dX1_shared_40 ?_
      refine lv_iload_n hx hb dX1_shared_41 rfl (lv_at hl 3 rfl) ?_
      refine nv_iadd hx hb dX1_shared_42 ?_
      refine nv_iald (f := sy) (n := 60) hx hb hK hP 2 0 rfl rfl (by omega) (by decide) dX1_shared_43 ?_
      have hbd4 := hsy ((6 * w) + k)
      refine nv_cne (tgt := 53) hx hb dX1_shared_44 (by decide) (by omega) (by omega) (fun c44 => ?_) (fun c44 => ?_)
      · refine lv_iload_n hx hb dX1_shared_53 rfl (lv_at hl 3 rfl) ?_
        exact rt_ri hx hb hr hlk dX1_shared_54 ⟨k, rfl, hk1, hk2, hin, Or.inr (Or.inr c44)⟩
      · refine lv_iinc (v := nI (k + 1)) (lv' := [(3, .int (nI (k + 1))), (0, .ref (bd 0)), (1, .int (nI v)), (2, .int (nI w))]) hx hb dX1_shared_47 hl (k := 3) rfl (nv_inc _) (by decide) rfl (fun ls hl => ?_)
        refine lv_goto (tgt := 2) hx hb dX1_shared_50 (by decide) ?_
        exact ih2 (k + 1) _ (by first | omega | (dsimp only; omega)) ⟨lv_sub hl [1, 2, 3, 0] rfl, (by omega), (by omega), (lt_s hin c44)⟩
end
section
set_option maxRecDepth 100000
set_option maxHeartbeats 4000000 in
/-- edits(w) -/
theorem metX1_edits (l : Launch) (D : va_G) (dI : ClassId) (bd : Nat → Nat) (sz : Nat) (ln sy wt qu co : Nat → Nat) (w : Nat) (hI : mI sz ln wt sy qu) (hco : ∀ k, co k ≤ 100) (hw : w < 10) (hsz : Nat) : Met l yX1_edits (ws_ yX1_edits cX1_edits 5 (some .int)) (rmN 2 48) (PW D [(dI, .int)] (mw dI bd sz ln sy wt qu co) [.ref (bd 0), .int (nI w)] hsz) (QI D [(dI, .int)] (fun (r : Int32) (u : (Nat → Nat)) => r = (nI (edX sz ln sy qu w)) ∧ ∀ q9, u q9 ≤ 100) (fun u : (Nat → Nat) => (mw dI bd sz ln sy wt qu u)) (va_A (mw dI bd sz ln sy wt qu co) hsz)) 0 0 (va_A (mw dI bd sz ln sy wt qu co) hsz) := by
  refine en_wi (by decide) (Nat.le_of_ble_eq_true rfl) ?_
  intro p e s m below meth c F hr hlk A hA hK hP hD hS ls hl
  have hx := F.1
  have hb := F.2.1
  have F : CallFix p m c cX1_edits 5 s [.ref (bd 0), .int (nI w)].toArray lw_all RX1 := F
  have hl : lv_has ls 5 [(0, .ref (bd 0)), (1, .int (nI w))] := hl
  obtain ⟨hs6, hln, hwt, hsy, hqu⟩ := id hI
  have hlw := hln w
  refine lv_bipush (v := (nI 100)) hx hb dX1_edits_0 (by decide) ?_
  refine lv_istore_n (lv' := [(2, .int (nI 100)), (0, .ref (bd 0)), (1, .int (nI w))]) hx hb dX1_edits_2 rfl hl (by decide) rfl (fun ls hl => ?_)
  refine lv_iconst (v := (nI 0)) hx hb dX1_edits_3 (by decide) ?_
  refine lv_istore_n (lv' := [(3, .int (nI 0)), (2, .int (nI 100)), (0, .ref (bd 0)), (1, .int (nI w))]) hx hb dX1_edits_4 rfl hl (by decide) rfl (fun ls hl => ?_)
  refine lp_w2 (I := fun (i : Nat) (d : Nat → Nat) H locs ls => va_P D vwCl (mw dI bd sz ln sy wt qu d) H ∧ va_D A (mw dI bd sz ln sy wt qu d) ∧ va_S A s.heap H locs ∧ lv_has ls 5 [(0, .ref (bd 0)), (1, .int (nI w)), (2, .int (nI 100)), (3, .int (nI i))] ∧ (i ≤ sz + 1) ∧ (tbI qu (fun k => sy (6 * w + k)) (ln w) i 0 d) ∧ (∀ k, d k ≤ 100)) (μ := fun (i : Nat) (d : Nat → Nat) => sz + 1 - i) ?_ 0 co _ _ _ ⟨hP, hD, hS, lv_sub hl [2, 3, 1, 0] rfl, (Nat.zero_le _), (fun a b h => by omega), hco⟩
  intro i d H locs ls hI0 ih5
  obtain ⟨hP, hD, hS, hl, hi, htb, hd⟩ := hI0
  have hl : lv_has ls 5 [(0, .ref (bd 0)), (1, .int (nI w)), (2, .int (nI 100)), (3, .int (nI i))] := hl
  have hP : va_P D vwCl (mw dI bd sz ln sy wt qu d) H := hP
  have hD : va_D A (mw dI bd sz ln sy wt qu d) := hD
  refine lv_iload_n hx hb dX1_edits_5 rfl (lv_at hl 3 rfl) ?_
  refine lv_aload_n hx hb dX1_edits_6 rfl (lv_at hl 0 rfl) ?_
  refine gm F hK hP rfl 3 (by decide) q202 rfl dX1_edits_7 ?_
  refine nv_cgt (tgt := 72) hx hb dX1_edits_10 (by decide) (by omega) (by omega) (fun c10 => ?_) (fun c10 => ?_)
  · refine lv_iconst (v := (nI 0)) hx hb dX1_edits_72 (by decide) ?_
    refine lv_istore_n (lv' := [(3, .int (nI 0)), (0, .ref (bd 0)), (1, .int (nI w)), (2, .int (nI 100))]) hx hb dX1_edits_73 rfl hl (by decide) rfl (fun ls hl => ?_)
    refine lp_w2 (I := fun (k : Nat) (x : Nat) H locs ls => va_P D vwCl (mw dI bd sz ln sy wt qu d) H ∧ va_D A (mw dI bd sz ln sy wt qu d) ∧ va_S A s.heap H locs ∧ lv_has ls 5 [(0, .ref (bd 0)), (1, .int (nI w)), (2, .int (nI x)), (3, .int (nI k))] ∧ (k ≤ ln w + 1) ∧ (x = edl qu (fun k => sy (6 * w + k)) sz k)) (μ := fun (k : Nat) (x : Nat) => ln w + 1 - k) ?_ 0 100 _ _ _ ⟨hP, hD, hS, lv_sub hl [1, 2, 3, 0] rfl, (Nat.zero_le _), rfl⟩
    intro k x H locs ls hI0 ih74
    obtain ⟨hP, hD, hS, hl, hk, hx1⟩ := hI0
    have hl : lv_has ls 5 [(0, .ref (bd 0)), (1, .int (nI w)), (2, .int (nI x)), (3, .int (nI k))] := hl
    have hP : va_P D vwCl (mw dI bd sz ln sy wt qu d) H := hP
    have hD : va_D A (mw dI bd sz ln sy wt qu d) := hD
    have hxl := edl_le qu (fun k => sy (6 * w + k)) sz k
    refine lv_iload_n hx hb dX1_edits_74 rfl (lv_at hl 3 rfl) ?_
    refine lv_aload_n hx hb dX1_edits_75 rfl (lv_at hl 0 rfl) ?_
    refine gm F hK hP rfl 0 (by decide) q199 rfl dX1_edits_76 ?_
    refine lv_iload_n hx hb dX1_edits_79 rfl (lv_at hl 1 rfl) ?_
    refine nv_iald (f := ln) (n := 10) hx hb hK hP 1 0 rfl rfl (by omega) (by decide) dX1_edits_80 ?_
    have hbd1 := hln w
    refine nv_cgt (tgt := 110) hx hb dX1_edits_81 (by decide) (by omega) (by omega) (fun c81 => ?_) (fun c81 => ?_)
    · refine lv_iload_n hx hb dX1_edits_110 rfl (lv_at hl 2 rfl) ?_
      have hke : k = ln w + 1 := by omega
      exact rt_wi hx hb hr hlk dX1_edits_111 hK hS d hP hD ⟨congrArg nI (by rw [hx1, hke, edl_eds]; rfl), hd⟩
    · refine lv_aload_n hx hb dX1_edits_84 rfl (lv_at hl 0 rfl) ?_
      refine lv_iload_n hx hb dX1_edits_85 rfl (lv_at hl 2 rfl) ?_
      refine lv_aload_n hx hb dX1_edits_86 rfl (lv_at hl 0 rfl) ?_
      refine gm F hK hP rfl 5 (by decide) q204 rfl dX1_edits_87 ?_
      refine lv_bipush (v := (nI 7)) hx hb dX1_edits_90 (by decide) ?_
      refine lv_aload_n hx hb dX1_edits_92 rfl (lv_at hl 0 rfl) ?_
      refine gm F hK hP rfl 3 (by decide) q202 rfl dX1_edits_93 ?_
      refine nv_imul hx hb dX1_edits_96 ?_
      refine lv_iload_n hx hb dX1_edits_97 rfl (lv_at hl 3 rfl) ?_
      refine nv_iadd hx hb dX1_edits_98 ?_
      refine nv_iald (f := d) (n := 49) hx hb hK hP 5 0 rfl rfl (by omega) (by decide) dX1_edits_99 ?_
      have hbd2 := hd ((7 * sz) + k)
      rw [show d ((7 * sz) + k) = dC qu (fun k => sy (6 * w + k)) sz k from htb sz k (by omega)]
      have hdl := dC_le qu (fun k => sy (6 * w + k)) sz k
      refine nc_ro (n := 2) (q0 := 0) (ci := 1) F (metX1_min l D dI bd sz ln sy wt qu d x (dC qu (fun k => sy (6 * w + k)) sz k) (by omega) (by omega)) (lw_V q267 q269 qs19 q25 q270) ⟨rfl, rfl⟩ (by decide +kernel) ⟨by decide, by decide⟩ hK hP rfl rfl rfl rfl hl rfl (Nat.le_of_ble_eq_true rfl) dX1_edits_100 ⟨by decide, by decide⟩ (fun r100 hr100 => ?_)
      have hr100 : r100 = (nI (min x ((dC qu (fun k => sy (6 * w + k)) sz k)))) := hr100
      subst hr100
      refine lv_istore_n (lv' := [(2, .int (nI (min x ((dC qu (fun k => sy (6 * w + k)) sz k))))), (0, .ref (bd 0)), (1, .int (nI w)), (3, .int (nI k))]) hx hb dX1_edits_103 rfl hl (by decide) rfl (fun ls hl => ?_)
      refine lv_iinc (v := nI (k + 1)) (lv' := [(3, .int (nI (k + 1))), (2, .int (nI (min x ((dC qu (fun k => sy (6 * w + k)) sz k))))), (0, .ref (bd 0)), (1, .int (nI w))]) hx hb dX1_edits_104 hl (k := 3) rfl (nv_inc _) (by decide) rfl (fun ls hl => ?_)
      refine lv_goto (tgt := 74) hx hb dX1_edits_107 (by decide) ?_
      exact ih74 (k + 1) (min x ((dC qu (fun k => sy (6 * w + k)) sz k))) _ _ _ (by first | omega | (dsimp only; omega)) ⟨hP, hD, hS, lv_sub hl [2, 3, 1, 0] rfl, (by omega), (by rw [hx1]; rfl)⟩
  · refine lv_iconst (v := (nI 0)) hx hb dX1_edits_13 (by decide) ?_
    refine lv_istore (lv' := [(4, .int (nI 0)), (0, .ref (bd 0)), (1, .int (nI w)), (2, .int (nI 100)), (3, .int (nI i))]) hx hb dX1_edits_14 hl (by decide) rfl (fun ls hl => ?_)
    refine lp_w2 (I := fun (j : Nat) (d2 : Nat → Nat) H locs ls => va_P D vwCl (mw dI bd sz ln sy wt qu d2) H ∧ va_D A (mw dI bd sz ln sy wt qu d2) ∧ va_S A s.heap H locs ∧ lv_has ls 5 [(0, .ref (bd 0)), (1, .int (nI w)), (2, .int (nI 100)), (3, .int (nI i)), (4, .int (nI j))] ∧ (j ≤ ln w + 1) ∧ (tbI qu (fun k => sy (6 * w + k)) (ln w) i j d2) ∧ (∀ k, d2 k ≤ 100)) (μ := fun (j : Nat) (d2 : Nat → Nat) => ln w + 1 - j) ?_ 0 d _ _ _ ⟨hP, hD, hS, lv_sub hl [1, 2, 3, 4, 0] rfl, (Nat.zero_le _), htb, hd⟩
    intro j d2 H locs ls hI0 ih16
    obtain ⟨hP, hD, hS, hl, hj, htb2, hd2⟩ := hI0
    have hl : lv_has ls 5 [(0, .ref (bd 0)), (1, .int (nI w)), (2, .int (nI 100)), (3, .int (nI i)), (4, .int (nI j))] := hl
    have hP : va_P D vwCl (mw dI bd sz ln sy wt qu d2) H := hP
    have hD : va_D A (mw dI bd sz ln sy wt qu d2) := hD
    refine lv_iload hx hb dX1_edits_16 (lv_at hl 4 rfl) ?_
    refine lv_aload_n hx hb dX1_edits_18 rfl (lv_at hl 0 rfl) ?_
    refine gm F hK hP rfl 0 (by decide) q199 rfl dX1_edits_19 ?_
    refine lv_iload_n hx hb dX1_edits_22 rfl (lv_at hl 1 rfl) ?_
    refine nv_iald (f := ln) (n := 10) hx hb hK hP 1 0 rfl rfl (by omega) (by decide) dX1_edits_23 ?_
    have hbd3 := hln w
    refine nv_cgt (tgt := 66) hx hb dX1_edits_24 (by decide) (by omega) (by omega) (fun c24 => ?_) (fun c24 => ?_)
    · refine lv_iinc (v := nI (i + 1)) (lv' := [(3, .int (nI (i + 1))), (0, .ref (bd 0)), (1, .int (nI w)), (2, .int (nI 100)), (4, .int (nI j))]) hx hb dX1_edits_66 hl (k := 3) rfl (nv_inc _) (by decide) rfl (fun ls hl => ?_)
      refine lv_goto (tgt := 5) hx hb dX1_edits_69 (by decide) ?_
      exact ih5 (i + 1) d2 _ _ _ (by first | omega | (dsimp only; omega)) ⟨hP, hD, hS, lv_sub hl [1, 2, 3, 0] rfl, (by omega), (tb_row htb2 c24), hd2⟩
    · refine lv_aload_n hx hb dX1_edits_27 rfl (lv_at hl 0 rfl) ?_
      refine gm F hK hP rfl 5 (by decide) q204 rfl dX1_edits_28 ?_
      refine lv_bipush (v := (nI 7)) hx hb dX1_edits_31 (by decide) ?_
      refine lv_iload_n hx hb dX1_edits_33 rfl (lv_at hl 3 rfl) ?_
      refine nv_imul hx hb dX1_edits_34 ?_
      refine lv_iload hx hb dX1_edits_35 (lv_at hl 4 rfl) ?_
      refine nv_iadd hx hb dX1_edits_37 ?_
      refine lv_iload_n hx hb dX1_edits_38 rfl (lv_at hl 3 rfl) ?_
      refine nv_zne (tgt := 51) hx hb dX1_edits_39 (by decide) (by omega) (fun c39 => ?_) (fun c39 => ?_)
      · refine lv_aload_n hx hb dX1_edits_51 rfl (lv_at hl 0 rfl) ?_
        refine lv_iload_n hx hb dX1_edits_52 rfl (lv_at hl 1 rfl) ?_
        refine lv_iload_n hx hb dX1_edits_53 rfl (lv_at hl 3 rfl) ?_
        refine lv_iload hx hb dX1_edits_54 (lv_at hl 4 rfl) ?_
        refine nc_ro (n := 3) (q0 := 0) (ci := 1) F (metX1_step l D dI bd sz ln sy wt qu d2 w i j hI hd2 (by omega) (by omega) (by omega)) (lw_V q263 q265 qs18 q25 q266) ⟨rfl, rfl⟩ (by decide +kernel) ⟨by decide, by decide⟩ hK hP rfl rfl rfl rfl hl rfl (Nat.le_of_ble_eq_true rfl) dX1_edits_56 ⟨by decide, by decide⟩ (fun r56 hr56 => ?_)
        have hr56 : r56 = (nI (stF d2 qu sy w i j)) := hr56
        subst hr56
        refine nv_iast (f := d2) (n := 49) (v := stF d2 qu sy w i j) hx hb hK hP hD hS 5 0 rfl rfl (by omega) (by decide) dX1_edits_59 (fun H locs hP hD hS => ?_)
        have hP : va_P D vwCl (mw dI bd sz ln sy wt qu (upN d2 ((7 * i) + j) (stF d2 qu sy w i j))) H := hP
        have hD : va_D A (mw dI bd sz ln sy wt qu (upN d2 ((7 * i) + j) (stF d2 qu sy w i j))) := hD
        refine lv_iinc (v := nI (j + 1)) (lv' := [(4, .int (nI (j + 1))), (0, .ref (bd 0)), (1, .int (nI w)), (2, .int (nI 100)), (3, .int (nI i))]) hx hb dX1_edits_60 hl (k := 4) rfl (nv_inc _) (by decide) rfl (fun ls hl => ?_)
        refine lv_goto (tgt := 16) hx hb dX1_edits_63 (by decide) ?_
        exact ih16 (j + 1) (upN d2 ((7 * i) + j) (stF d2 qu sy w i j)) _ _ _ (by first | omega | (dsimp only; omega)) ⟨hP, hD, hS, lv_sub hl [1, 2, 3, 4, 0] rfl, (by omega), (tb_put htb2 (by omega) hlw (tb_st htb2 (by omega) (by omega))), (upN_le hd2 (stF_le _ _ _ _ _ _))⟩
      · refine lv_iload hx hb dX1_edits_42 (lv_at hl 4 rfl) ?_
        refine nv_zne (tgt := 51) hx hb dX1_edits_44 (by decide) (by omega) (fun c44 => ?_) (fun c44 => ?_)
        · refine lv_aload_n hx hb dX1_edits_51 rfl (lv_at hl 0 rfl) ?_
          refine lv_iload_n hx hb dX1_edits_52 rfl (lv_at hl 1 rfl) ?_
          refine lv_iload_n hx hb dX1_edits_53 rfl (lv_at hl 3 rfl) ?_
          refine lv_iload hx hb dX1_edits_54 (lv_at hl 4 rfl) ?_
          refine nc_ro (n := 3) (q0 := 0) (ci := 1) F (metX1_step l D dI bd sz ln sy wt qu d2 w i j hI hd2 (by omega) (by omega) (by omega)) (lw_V q263 q265 qs18 q25 q266) ⟨rfl, rfl⟩ (by decide +kernel) ⟨by decide, by decide⟩ hK hP rfl rfl rfl rfl hl rfl (Nat.le_of_ble_eq_true rfl) dX1_edits_56 ⟨by decide, by decide⟩ (fun r56 hr56 => ?_)
          have hr56 : r56 = (nI (stF d2 qu sy w i j)) := hr56
          subst hr56
          refine nv_iast (f := d2) (n := 49) (v := stF d2 qu sy w i j) hx hb hK hP hD hS 5 0 rfl rfl (by omega) (by decide) dX1_edits_59 (fun H locs hP hD hS => ?_)
          have hP : va_P D vwCl (mw dI bd sz ln sy wt qu (upN d2 ((7 * i) + j) (stF d2 qu sy w i j))) H := hP
          have hD : va_D A (mw dI bd sz ln sy wt qu (upN d2 ((7 * i) + j) (stF d2 qu sy w i j))) := hD
          refine lv_iinc (v := nI (j + 1)) (lv' := [(4, .int (nI (j + 1))), (0, .ref (bd 0)), (1, .int (nI w)), (2, .int (nI 100)), (3, .int (nI i))]) hx hb dX1_edits_60 hl (k := 4) rfl (nv_inc _) (by decide) rfl (fun ls hl => ?_)
          refine lv_goto (tgt := 16) hx hb dX1_edits_63 (by decide) ?_
          exact ih16 (j + 1) (upN d2 ((7 * i) + j) (stF d2 qu sy w i j)) _ _ _ (by first | omega | (dsimp only; omega)) ⟨hP, hD, hS, lv_sub hl [1, 2, 3, 4, 0] rfl, (by omega), (tb_put htb2 (by omega) hlw (tb_st htb2 (by omega) (by omega))), (upN_le hd2 (stF_le _ _ _ _ _ _))⟩
        · refine lv_iconst (v := (nI 0)) hx hb dX1_edits_47 (by decide) ?_
          refine lv_goto (tgt := 59) hx hb dX1_edits_48 (by decide) ?_
          refine nv_iast (f := d2) (n := 49) (v := 0) hx hb hK hP hD hS 5 0 rfl rfl (by omega) (by decide) dX1_edits_59 (fun H locs hP hD hS => ?_)
          have hP : va_P D vwCl (mw dI bd sz ln sy wt qu (upN d2 ((7 * i) + j) 0)) H := hP
          have hD : va_D A (mw dI bd sz ln sy wt qu (upN d2 ((7 * i) + j) 0)) := hD
          refine lv_iinc (v := nI (j + 1)) (lv' := [(4, .int (nI (j + 1))), (0, .ref (bd 0)), (1, .int (nI w)), (2, .int (nI 100)), (3, .int (nI i))]) hx hb dX1_edits_60 hl (k := 4) rfl (nv_inc _) (by decide) rfl (fun ls hl => ?_)
          refine lv_goto (tgt := 16) hx hb dX1_edits_63 (by decide) ?_
          exact ih16 (j + 1) (upN d2 ((7 * i) + j) 0) _ _ _ (by first | omega | (dsimp only; omega)) ⟨hP, hD, hS, lv_sub hl [1, 2, 3, 4, 0] rfl, (by omega), (tb_put htb2 (by omega) hlw (by rw [c39, c44]; rfl)), (upN_le hd2 (by omega))⟩
set_option maxHeartbeats 4000000 in
/-- typos(w) -/
theorem metX1_typos (l : Launch) (D : va_G) (dI : ClassId) (bd : Nat → Nat) (sz : Nat) (ln sy wt qu co : Nat → Nat) (w : Int32) (hI : mI sz ln wt sy qu) (hco : ∀ k, co k ≤ 100) (hsz : Nat) : Met l yX1_typos (ws_ yX1_typos cX1_typos 2 (some .int)) (rmN 3 72) (PW D [(dI, .int)] (mw dI bd sz ln sy wt qu co) [.ref (bd 0), .int w] hsz) (QI D [(dI, .int)] (fun (r : Int32) (u : (Nat → Nat)) => r = (tyF (isF ln w) (min (edX sz ln sy qu w.toInt.toNat) 3)) ∧ ∀ q9, u q9 ≤ 100) (fun u : (Nat → Nat) => (mw dI bd sz ln sy wt qu u)) (va_A (mw dI bd sz ln sy wt qu co) hsz)) 0 0 (va_A (mw dI bd sz ln sy wt qu co) hsz) := by
  refine en_wi (by decide) (Nat.le_of_ble_eq_true rfl) ?_
  intro p e s m below meth c F hr hlk A hA hK hP hD hS ls hl
  have hx := F.1
  have hb := F.2.1
  have F : CallFix p m c cX1_typos 2 s [.ref (bd 0), .int w].toArray lw_all RX1 := F
  have hl : lv_has ls 2 [(0, .ref (bd 0)), (1, .int w)] := hl
  obtain ⟨hs6, hln, hwt, hsy, hqu⟩ := id hI
  refine lv_aload_n hx hb dX1_typos_0 rfl (lv_at hl 0 rfl) ?_
  refine lv_iload_n hx hb dX1_typos_1 rfl (lv_at hl 1 rfl) ?_
  refine nc_ro (n := 1) (q0 := 0) (ci := 1) F (metX1_is l D dI bd sz ln sy wt qu co w hln) (lw_V q227 q229 qs14 q25 q230) ⟨rfl, rfl⟩ (by decide +kernel) ⟨by decide, by decide⟩ hK hP rfl rfl rfl rfl hl rfl (Nat.le_of_ble_eq_true rfl) dX1_typos_2 ⟨by decide, by decide⟩ (fun r2 hr2 => ?_)
  have hr2 : r2 = (nI (Bool.toNat (isF ln w))) := hr2
  subst hr2
  refine nv_beq (tgt := 21) hx hb dX1_typos_5 (by decide) (fun c5 => ?_) (fun c5 => ?_)
  · refine lv_iconst (v := ((-1))) hx hb dX1_typos_21 (by decide) ?_
    exact rt_wi hx hb hr hlk dX1_typos_22 hK hS co hP hD ⟨tyF_f c5, hco⟩
  · obtain ⟨j, hj, rfl, hpj⟩ := inF_ex c5
    have hel := edX_le sz ln sy qu j
    refine lv_aload_n hx hb dX1_typos_8 rfl (lv_at hl 0 rfl) ?_
    refine lv_aload_n hx hb dX1_typos_9 rfl (lv_at hl 0 rfl) ?_
    refine lv_iload_n hx hb dX1_typos_10 rfl (lv_at hl 1 rfl) ?_
    refine nc_wi (n := 1) (q0 := 0) (ci := 1) (wr := []) F (metX1_edits l D dI bd sz ln sy wt qu co j hI hco (by omega) _) (lw_V q259 q261 qs17 q25 q262) ⟨rfl, rfl⟩ (by decide +kernel) ⟨by decide, by decide⟩ hK hP hD hS hA [0, 1, 2, 3, 4, 5] [] rfl rfl rfl rfl rfl (by decide) rfl rfl rfl rfl hl rfl (Nat.le_of_ble_eq_true rfl) dX1_typos_11 ⟨by decide, by decide⟩ (fun r11 u H locs hr11o hP hD hS => ?_)
    obtain ⟨co_1, rfl⟩ : ∃ z, z = u := ⟨_, rfl⟩
    have hP : va_P D vwCl (mw dI bd sz ln sy wt qu co_1) H := hP
    have hD : va_D A (mw dI bd sz ln sy wt qu co_1) := hD
    have hr11 : r11 = (nI (edX sz ln sy qu j)) ∧ (∀ q9, co_1 q9 ≤ 100) := hr11o
    obtain ⟨hr11e, hr11⟩ := hr11
    subst hr11e
    refine lv_iconst (v := (nI 3)) hx hb dX1_typos_14 (by decide) ?_
    refine nc_ro (n := 2) (q0 := 0) (ci := 1) F (metX1_min l D dI bd sz ln sy wt qu co_1 (edX sz ln sy qu j) 3 (by omega) (by omega)) (lw_V q267 q269 qs19 q25 q270) ⟨rfl, rfl⟩ (by decide +kernel) ⟨by decide, by decide⟩ hK hP rfl rfl rfl rfl hl rfl (Nat.le_of_ble_eq_true rfl) dX1_typos_15 ⟨by decide, by decide⟩ (fun r15 hr15 => ?_)
    have hr15 : r15 = (nI (min ((edX sz ln sy qu j)) 3)) := hr15
    subst hr15
    refine lv_goto (tgt := 22) hx hb dX1_typos_18 (by decide) ?_
    exact rt_wi hx hb hr hlk dX1_typos_22 hK hS co_1 hP hD ⟨by rw [← tyF_t c5, nI_tn hj], hr11⟩
set_option maxHeartbeats 4000000 in
/-- isFound(w) -/
theorem metX1_isFound (l : Launch) (D : va_G) (dI : ClassId) (bd : Nat → Nat) (sz : Nat) (ln sy wt qu co : Nat → Nat) (w : Int32) (hI : mI sz ln wt sy qu) (hco : ∀ k, co k ≤ 100) (hsz : Nat) : Met l yX1_isFound (ws_ yX1_isFound cX1_isFound 3 (some .boolean)) (rmN 3 72) (PW D [(dI, .int)] (mw dI bd sz ln sy wt qu co) [.ref (bd 0), .int w] hsz) (QI D [(dI, .int)] (fun (r : Int32) (u : (Nat → Nat)) => r = (nI (Bool.toNat (inF 10 (fdM sz ln sy qu) w))) ∧ ∀ q9, u q9 ≤ 100) (fun u : (Nat → Nat) => (mw dI bd sz ln sy wt qu u)) (va_A (mw dI bd sz ln sy wt qu co) hsz)) 0 0 (va_A (mw dI bd sz ln sy wt qu co) hsz) := by
  refine en_wi (by decide) (Nat.le_of_ble_eq_true rfl) ?_
  intro p e s m below meth c F hr hlk A hA hK hP hD hS ls hl
  have hx := F.1
  have hb := F.2.1
  have F : CallFix p m c cX1_isFound 3 s [.ref (bd 0), .int w].toArray lw_all RX1 := F
  have hl : lv_has ls 3 [(0, .ref (bd 0)), (1, .int w)] := hl
  obtain ⟨hs6, hln, hwt, hsy, hqu⟩ := id hI
  refine lv_aload_n hx hb dX1_isFound_0 rfl (lv_at hl 0 rfl) ?_
  refine gm F hK hP rfl 3 (by decide) q202 rfl dX1_isFound_1 ?_
  refine lv_iconst (v := (nI 3)) hx hb dX1_isFound_4 (by decide) ?_
  refine nv_cge (tgt := 12) hx hb dX1_isFound_5 (by decide) (by omega) (by omega) (fun c5 => ?_) (fun c5 => ?_)
  · refine lv_aload_n hx hb dX1_isFound_12 rfl (lv_at hl 0 rfl) ?_
    refine gm F hK hP rfl 3 (by decide) q202 rfl dX1_isFound_13 ?_
    refine lv_iconst (v := (nI 5)) hx hb dX1_isFound_16 (by decide) ?_
    refine nv_cge (tgt := 24) hx hb dX1_isFound_17 (by decide) (by omega) (by omega) (fun c17 => ?_) (fun c17 => ?_)
    · refine lv_iconst (v := (nI 2)) hx hb dX1_isFound_24 (by decide) ?_
      refine lv_istore_n (lv' := [(2, .int (nI 2)), (0, .ref (bd 0)), (1, .int w)]) hx hb dX1_isFound_25 rfl hl (by decide) rfl (fun ls hl => ?_)
      refine lv_aload_n hx hb dX1_isFound_26 rfl (lv_at hl 1 rfl) ?_
      refine lv_iload_n hx hb dX1_isFound_27 rfl (lv_at hl 2 rfl) ?_
      refine nc_ro (n := 1) (q0 := 0) (ci := 1) F (metX1_is l D dI bd sz ln sy wt qu co w hln) (lw_V q227 q229 qs14 q25 q230) ⟨rfl, rfl⟩ (by decide +kernel) ⟨by decide, by decide⟩ hK hP rfl rfl rfl rfl hl rfl (Nat.le_of_ble_eq_true rfl) dX1_isFound_28 ⟨by decide, by decide⟩ (fun r28 hr28 => ?_)
      have hr28 : r28 = (nI (Bool.toNat (isF ln w))) := hr28
      subst hr28
      refine nv_beq (tgt := 47) hx hb dX1_isFound_31 (by decide) (fun c31 => ?_) (fun c31 => ?_)
      · refine lv_iconst (v := (nI 0)) hx hb dX1_isFound_47 (by decide) ?_
        exact rt_wz hx hb hr hlk dX1_isFound_48 rfl hK hS co hP hD ⟨by rw [ni_f c31]; rfl, hco⟩
      · obtain ⟨j, hj, rfl, hpj⟩ := inF_ex c31
        have hel := edX_le sz ln sy qu j
        refine lv_aload_n hx hb dX1_isFound_34 rfl (lv_at hl 1 rfl) ?_
        refine lv_iload_n hx hb dX1_isFound_35 rfl (lv_at hl 2 rfl) ?_
        refine nc_wi (n := 1) (q0 := 0) (ci := 1) (wr := []) F (metX1_edits l D dI bd sz ln sy wt qu co j hI hco (by omega) _) (lw_V q259 q261 qs17 q25 q262) ⟨rfl, rfl⟩ (by decide +kernel) ⟨by decide, by decide⟩ hK hP hD hS hA [0, 1, 2, 3, 4, 5] [] rfl rfl rfl rfl rfl (by decide) rfl rfl rfl rfl hl rfl (Nat.le_of_ble_eq_true rfl) dX1_isFound_36 ⟨by decide, by decide⟩ (fun r36 u H locs hr36o hP hD hS => ?_)
        obtain ⟨co_1, rfl⟩ : ∃ z, z = u := ⟨_, rfl⟩
        have hP : va_P D vwCl (mw dI bd sz ln sy wt qu co_1) H := hP
        have hD : va_D A (mw dI bd sz ln sy wt qu co_1) := hD
        have hr36 : r36 = (nI (edX sz ln sy qu j)) ∧ (∀ q9, co_1 q9 ≤ 100) := hr36o
        obtain ⟨hr36e, hr36⟩ := hr36
        subst hr36e
        refine lv_iload_n hx hb dX1_isFound_39 rfl (lv_at hl 0 rfl) ?_
        refine nv_cgt (tgt := 47) hx hb dX1_isFound_40 (by decide) (by omega) (by omega) (fun c40 => ?_) (fun c40 => ?_)
        · refine lv_iconst (v := (nI 0)) hx hb dX1_isFound_47 (by decide) ?_
          exact rt_wz hx hb hr hlk dX1_isFound_48 rfl hK hS co_1 hP hD ⟨by rw [inF_n hj (by decide), fdM_f (by unfold fg; rw [if_neg (by omega), if_neg (by omega)]) c40]; rfl, hr36⟩
        · refine lv_iconst (v := (nI 1)) hx hb dX1_isFound_43 (by decide) ?_
          refine lv_goto (tgt := 48) hx hb dX1_isFound_44 (by decide) ?_
          exact rt_wz hx hb hr hlk dX1_isFound_48 rfl hK hS co_1 hP hD ⟨by rw [inF_n hj (by decide), fdM_t (by unfold fg; rw [if_neg (by omega), if_neg (by omega)]) hpj c40]; rfl, hr36⟩
    · refine lv_iconst (v := (nI 1)) hx hb dX1_isFound_20 (by decide) ?_
      refine lv_goto (tgt := 25) hx hb dX1_isFound_21 (by decide) ?_
      refine lv_istore_n (lv' := [(2, .int (nI 1)), (0, .ref (bd 0)), (1, .int w)]) hx hb dX1_isFound_25 rfl hl (by decide) rfl (fun ls hl => ?_)
      refine lv_aload_n hx hb dX1_isFound_26 rfl (lv_at hl 1 rfl) ?_
      refine lv_iload_n hx hb dX1_isFound_27 rfl (lv_at hl 2 rfl) ?_
      refine nc_ro (n := 1) (q0 := 0) (ci := 1) F (metX1_is l D dI bd sz ln sy wt qu co w hln) (lw_V q227 q229 qs14 q25 q230) ⟨rfl, rfl⟩ (by decide +kernel) ⟨by decide, by decide⟩ hK hP rfl rfl rfl rfl hl rfl (Nat.le_of_ble_eq_true rfl) dX1_isFound_28 ⟨by decide, by decide⟩ (fun r28 hr28 => ?_)
      have hr28 : r28 = (nI (Bool.toNat (isF ln w))) := hr28
      subst hr28
      refine nv_beq (tgt := 47) hx hb dX1_isFound_31 (by decide) (fun c31 => ?_) (fun c31 => ?_)
      · refine lv_iconst (v := (nI 0)) hx hb dX1_isFound_47 (by decide) ?_
        exact rt_wz hx hb hr hlk dX1_isFound_48 rfl hK hS co hP hD ⟨by rw [ni_f c31]; rfl, hco⟩
      · obtain ⟨j, hj, rfl, hpj⟩ := inF_ex c31
        have hel := edX_le sz ln sy qu j
        refine lv_aload_n hx hb dX1_isFound_34 rfl (lv_at hl 1 rfl) ?_
        refine lv_iload_n hx hb dX1_isFound_35 rfl (lv_at hl 2 rfl) ?_
        refine nc_wi (n := 1) (q0 := 0) (ci := 1) (wr := []) F (metX1_edits l D dI bd sz ln sy wt qu co j hI hco (by omega) _) (lw_V q259 q261 qs17 q25 q262) ⟨rfl, rfl⟩ (by decide +kernel) ⟨by decide, by decide⟩ hK hP hD hS hA [0, 1, 2, 3, 4, 5] [] rfl rfl rfl rfl rfl (by decide) rfl rfl rfl rfl hl rfl (Nat.le_of_ble_eq_true rfl) dX1_isFound_36 ⟨by decide, by decide⟩ (fun r36 u H locs hr36o hP hD hS => ?_)
        obtain ⟨co_2, rfl⟩ : ∃ z, z = u := ⟨_, rfl⟩
        have hP : va_P D vwCl (mw dI bd sz ln sy wt qu co_2) H := hP
        have hD : va_D A (mw dI bd sz ln sy wt qu co_2) := hD
        have hr36 : r36 = (nI (edX sz ln sy qu j)) ∧ (∀ q9, co_2 q9 ≤ 100) := hr36o
        obtain ⟨hr36e, hr36⟩ := hr36
        subst hr36e
        refine lv_iload_n hx hb dX1_isFound_39 rfl (lv_at hl 0 rfl) ?_
        refine nv_cgt (tgt := 47) hx hb dX1_isFound_40 (by decide) (by omega) (by omega) (fun c40 => ?_) (fun c40 => ?_)
        · refine lv_iconst (v := (nI 0)) hx hb dX1_isFound_47 (by decide) ?_
          exact rt_wz hx hb hr hlk dX1_isFound_48 rfl hK hS co_2 hP hD ⟨by rw [inF_n hj (by decide), fdM_f (by unfold fg; rw [if_neg (by omega), if_pos (by omega)]) c40]; rfl, hr36⟩
        · refine lv_iconst (v := (nI 1)) hx hb dX1_isFound_43 (by decide) ?_
          refine lv_goto (tgt := 48) hx hb dX1_isFound_44 (by decide) ?_
          exact rt_wz hx hb hr hlk dX1_isFound_48 rfl hK hS co_2 hP hD ⟨by rw [inF_n hj (by decide), fdM_t (by unfold fg; rw [if_neg (by omega), if_pos (by omega)]) hpj c40]; rfl, hr36⟩
  · refine lv_iconst (v := (nI 0)) hx hb dX1_isFound_8 (by decide) ?_
    refine lv_goto (tgt := 25) hx hb dX1_isFound_9 (by decide) ?_
    refine lv_istore_n (lv' := [(2, .int (nI 0)), (0, .ref (bd 0)), (1, .int w)]) hx hb dX1_isFound_25 rfl hl (by decide) rfl (fun ls hl => ?_)
    refine lv_aload_n hx hb dX1_isFound_26 rfl (lv_at hl 1 rfl) ?_
    refine lv_iload_n hx hb dX1_isFound_27 rfl (lv_at hl 2 rfl) ?_
    refine nc_ro (n := 1) (q0 := 0) (ci := 1) F (metX1_is l D dI bd sz ln sy wt qu co w hln) (lw_V q227 q229 qs14 q25 q230) ⟨rfl, rfl⟩ (by decide +kernel) ⟨by decide, by decide⟩ hK hP rfl rfl rfl rfl hl rfl (Nat.le_of_ble_eq_true rfl) dX1_isFound_28 ⟨by decide, by decide⟩ (fun r28 hr28 => ?_)
    have hr28 : r28 = (nI (Bool.toNat (isF ln w))) := hr28
    subst hr28
    refine nv_beq (tgt := 47) hx hb dX1_isFound_31 (by decide) (fun c31 => ?_) (fun c31 => ?_)
    · refine lv_iconst (v := (nI 0)) hx hb dX1_isFound_47 (by decide) ?_
      exact rt_wz hx hb hr hlk dX1_isFound_48 rfl hK hS co hP hD ⟨by rw [ni_f c31]; rfl, hco⟩
    · obtain ⟨j, hj, rfl, hpj⟩ := inF_ex c31
      have hel := edX_le sz ln sy qu j
      refine lv_aload_n hx hb dX1_isFound_34 rfl (lv_at hl 1 rfl) ?_
      refine lv_iload_n hx hb dX1_isFound_35 rfl (lv_at hl 2 rfl) ?_
      refine nc_wi (n := 1) (q0 := 0) (ci := 1) (wr := []) F (metX1_edits l D dI bd sz ln sy wt qu co j hI hco (by omega) _) (lw_V q259 q261 qs17 q25 q262) ⟨rfl, rfl⟩ (by decide +kernel) ⟨by decide, by decide⟩ hK hP hD hS hA [0, 1, 2, 3, 4, 5] [] rfl rfl rfl rfl rfl (by decide) rfl rfl rfl rfl hl rfl (Nat.le_of_ble_eq_true rfl) dX1_isFound_36 ⟨by decide, by decide⟩ (fun r36 u H locs hr36o hP hD hS => ?_)
      obtain ⟨co_3, rfl⟩ : ∃ z, z = u := ⟨_, rfl⟩
      have hP : va_P D vwCl (mw dI bd sz ln sy wt qu co_3) H := hP
      have hD : va_D A (mw dI bd sz ln sy wt qu co_3) := hD
      have hr36 : r36 = (nI (edX sz ln sy qu j)) ∧ (∀ q9, co_3 q9 ≤ 100) := hr36o
      obtain ⟨hr36e, hr36⟩ := hr36
      subst hr36e
      refine lv_iload_n hx hb dX1_isFound_39 rfl (lv_at hl 0 rfl) ?_
      refine nv_cgt (tgt := 47) hx hb dX1_isFound_40 (by decide) (by omega) (by omega) (fun c40 => ?_) (fun c40 => ?_)
      · refine lv_iconst (v := (nI 0)) hx hb dX1_isFound_47 (by decide) ?_
        exact rt_wz hx hb hr hlk dX1_isFound_48 rfl hK hS co_3 hP hD ⟨by rw [inF_n hj (by decide), fdM_f (by unfold fg; rw [if_pos (by omega)]) c40]; rfl, hr36⟩
      · refine lv_iconst (v := (nI 1)) hx hb dX1_isFound_43 (by decide) ?_
        refine lv_goto (tgt := 48) hx hb dX1_isFound_44 (by decide) ?_
        exact rt_wz hx hb hr hlk dX1_isFound_48 rfl hK hS co_3 hP hD ⟨by rw [inF_n hj (by decide), fdM_t (by unfold fg; rw [if_pos (by omega)]) hpj c40]; rfl, hr36⟩
set_option maxHeartbeats 4000000 in
/-- found() -/
theorem metX1_found (l : Launch) (D : va_G) (dI : ClassId) (bd : Nat → Nat) (sz : Nat) (ln sy wt qu co : Nat → Nat)  (hI : mI sz ln wt sy qu) (hco : ∀ k, co k ≤ 100) (hsz : Nat) : Met l yX1_found (ws_ yX1_found cX1_found 3 (some .int)) (rmN 4 94) (PW D [(dI, .int)] (mw dI bd sz ln sy wt qu co) [.ref (bd 0)] hsz) (QI D [(dI, .int)] (fun (r : Int32) (u : (Nat → Nat)) => r = (nI (setOf (fdM sz ln sy qu) 10)) ∧ ∀ q9, u q9 ≤ 100) (fun u : (Nat → Nat) => (mw dI bd sz ln sy wt qu u)) (va_A (mw dI bd sz ln sy wt qu co) hsz)) 0 0 (va_A (mw dI bd sz ln sy wt qu co) hsz) := by
  refine en_wi (by decide) (Nat.le_of_ble_eq_true rfl) ?_
  intro p e s m below meth c F hr hlk A hA hK hP hD hS ls hl
  have hx := F.1
  have hb := F.2.1
  have F : CallFix p m c cX1_found 3 s [.ref (bd 0)].toArray lw_all RX1 := F
  have hl : lv_has ls 3 [(0, .ref (bd 0))] := hl
  obtain ⟨hs6, hln, hwt, hsy, hqu⟩ := id hI
  refine lv_iconst (v := (nI 0)) hx hb dX1_found_0 (by decide) ?_
  refine lv_istore_n (lv' := [(1, .int (nI 0)), (0, .ref (bd 0))]) hx hb dX1_found_1 rfl hl (by decide) rfl (fun ls hl => ?_)
  refine lv_iconst (v := (nI 0)) hx hb dX1_found_2 (by decide) ?_
  refine lv_istore_n (lv' := [(2, .int (nI 0)), (1, .int (nI 0)), (0, .ref (bd 0))]) hx hb dX1_found_3 rfl hl (by decide) rfl (fun ls hl => ?_)
  refine lp_w3 (I := fun (i : Nat) (g : Nat) (d : Nat → Nat) H locs ls => va_P D vwCl (mw dI bd sz ln sy wt qu d) H ∧ va_D A (mw dI bd sz ln sy wt qu d) ∧ va_S A s.heap H locs ∧ lv_has ls 3 [(0, .ref (bd 0)), (1, .int (nI g)), (2, .int (nI i))] ∧ (i ≤ 10) ∧ (g = setOf (fdM sz ln sy qu) i) ∧ (∀ k, d k ≤ 100)) (μ := fun (i : Nat) (g : Nat) (d : Nat → Nat) => 10 - i) ?_ 0 0 co _ _ _ ⟨hP, hD, hS, lv_sub hl [2, 1, 0] rfl, (Nat.zero_le _), rfl, hco⟩
  intro i g d H locs ls hI0 ih4
  obtain ⟨hP, hD, hS, hl, hi, hg, hd⟩ := hI0
  have hl : lv_has ls 3 [(0, .ref (bd 0)), (1, .int (nI g)), (2, .int (nI i))] := hl
  have hP : va_P D vwCl (mw dI bd sz ln sy wt qu d) H := hP
  have hD : va_D A (mw dI bd sz ln sy wt qu d) := hD
  refine lv_iload_n hx hb dX1_found_4 rfl (lv_at hl 2 rfl) ?_
  refine lv_bipush (v := (nI 10)) hx hb dX1_found_5 (by decide) ?_
  refine nv_cge (tgt := 34) hx hb dX1_found_7 (by decide) (by omega) (by omega) (fun c7 => ?_) (fun c7 => ?_)
  · refine lv_iload_n hx hb dX1_found_34 rfl (lv_at hl 1 rfl) ?_
    exact rt_wi hx hb hr hlk dX1_found_35 hK hS d hP hD ⟨congrArg nI (by rw [hg, show i = 10 by omega]), hd⟩
  · refine lv_aload_n hx hb dX1_found_10 rfl (lv_at hl 0 rfl) ?_
    refine lv_iload_n hx hb dX1_found_11 rfl (lv_at hl 2 rfl) ?_
    refine nc_wi (n := 1) (q0 := 0) (ci := 1) (wr := []) F (metX1_isFound l D dI bd sz ln sy wt qu d (nI i) hI hd _) (lw_V q255 q257 qs16 q25 q258) ⟨rfl, rfl⟩ (by decide +kernel) ⟨by decide, by decide⟩ hK hP hD hS hA [0, 1, 2, 3, 4, 5] [] rfl rfl rfl rfl rfl (by decide) rfl rfl rfl rfl hl rfl (Nat.le_of_ble_eq_true rfl) dX1_found_12 ⟨by decide, by decide⟩ (fun r12 u H locs hr12o hP hD hS => ?_)
    obtain ⟨co_1, rfl⟩ : ∃ z, z = u := ⟨_, rfl⟩
    have hP : va_P D vwCl (mw dI bd sz ln sy wt qu co_1) H := hP
    have hD : va_D A (mw dI bd sz ln sy wt qu co_1) := hD
    have hr12 : r12 = (nI (Bool.toNat (inF 10 (fdM sz ln sy qu) ((nI i))))) ∧ (∀ q9, co_1 q9 ≤ 100) := hr12o
    obtain ⟨hr12e, hr12⟩ := hr12
    subst hr12e
    refine nv_beq (tgt := 26) hx hb dX1_found_15 (by decide) (fun c15 => ?_) (fun c15 => ?_)
    · rw [inF_n (by omega) (by decide)] at c15
      refine lv_iload_n hx hb dX1_found_26 rfl (lv_at hl 1 rfl) ?_
      refine lv_istore_n (lv' := [(1, .int (nI g)), (0, .ref (bd 0)), (2, .int (nI i))]) hx hb dX1_found_27 rfl hl (by decide) rfl (fun ls hl => ?_)
      refine lv_iinc (v := nI (i + 1)) (lv' := [(2, .int (nI (i + 1))), (1, .int (nI g)), (0, .ref (bd 0))]) hx hb dX1_found_28 hl (k := 2) rfl (nv_inc _) (by decide) rfl (fun ls hl => ?_)
      refine lv_goto (tgt := 4) hx hb dX1_found_31 (by decide) ?_
      exact ih4 (i + 1) g co_1 _ _ _ (by first | omega | (dsimp only; omega)) ⟨hP, hD, hS, lv_sub hl [2, 1, 0] rfl, (by omega), (by rw [hg, setOf_f c15]), hr12⟩
    · rw [inF_n (by omega) (by decide)] at c15
      refine lv_iload_n hx hb dX1_found_18 rfl (lv_at hl 1 rfl) ?_
      refine lv_iconst (v := (nI 1)) hx hb dX1_found_19 (by decide) ?_
      refine lv_iload_n hx hb dX1_found_20 rfl (lv_at hl 2 rfl) ?_
      refine nv_ishl hx hb (by omega) dX1_found_21 ?_
      refine nv_ior hx hb dX1_found_22 ?_
      refine lv_goto (tgt := 27) hx hb dX1_found_23 (by decide) ?_
      refine lv_istore_n (lv' := [(1, .int (nI (g ||| (1 <<< i)))), (0, .ref (bd 0)), (2, .int (nI i))]) hx hb dX1_found_27 rfl hl (by decide) rfl (fun ls hl => ?_)
      refine lv_iinc (v := nI (i + 1)) (lv' := [(2, .int (nI (i + 1))), (1, .int (nI (g ||| (1 <<< i)))), (0, .ref (bd 0))]) hx hb dX1_found_28 hl (k := 2) rfl (nv_inc _) (by decide) rfl (fun ls hl => ?_)
      refine lv_goto (tgt := 4) hx hb dX1_found_31 (by decide) ?_
      exact ih4 (i + 1) (g ||| (1 <<< i)) co_1 _ _ _ (by first | omega | (dsimp only; omega)) ⟨hP, hD, hS, lv_sub hl [2, 1, 0] rfl, (by omega), (by rw [hg, setOf_t c15]), hr12⟩
set_option maxHeartbeats 4000000 in
/-- count() -/
theorem metX1_count (l : Launch) (D : va_G) (dI : ClassId) (bd : Nat → Nat) (sz : Nat) (ln sy wt qu co : Nat → Nat)  (hI : mI sz ln wt sy qu) (hco : ∀ k, co k ≤ 100) (hsz : Nat) : Met l yX1_count (ws_ yX1_count cX1_count 4 (some .int)) (rmN 5 116) (PW D [(dI, .int)] (mw dI bd sz ln sy wt qu co) [.ref (bd 0)] hsz) (QI D [(dI, .int)] (fun (r : Int32) (u : (Nat → Nat)) => r = (nI (cntOf (fdM sz ln sy qu) 10)) ∧ ∀ q9, u q9 ≤ 100) (fun u : (Nat → Nat) => (mw dI bd sz ln sy wt qu u)) (va_A (mw dI bd sz ln sy wt qu co) hsz)) 0 0 (va_A (mw dI bd sz ln sy wt qu co) hsz) := by
  refine en_wi (by decide) (Nat.le_of_ble_eq_true rfl) ?_
  intro p e s m below meth c F hr hlk A hA hK hP hD hS ls hl
  have hx := F.1
  have hb := F.2.1
  have F : CallFix p m c cX1_count 4 s [.ref (bd 0)].toArray lw_all RX1 := F
  have hl : lv_has ls 4 [(0, .ref (bd 0))] := hl
  obtain ⟨hs6, hln, hwt, hsy, hqu⟩ := id hI
  refine lv_aload_n hx hb dX1_count_0 rfl (lv_at hl 0 rfl) ?_
  refine nc_wi (n := 0) (q0 := 0) (ci := 1) (wr := []) F (metX1_found l D dI bd sz ln sy wt qu co  hI hco _) (lw_V q251 q252 q253 q25 q254) ⟨rfl, rfl⟩ (by decide +kernel) ⟨by decide, by decide⟩ hK hP hD hS hA [0, 1, 2, 3, 4, 5] [] rfl rfl rfl rfl rfl (by decide) rfl rfl rfl rfl hl rfl (Nat.le_of_ble_eq_true rfl) dX1_count_1 ⟨by decide, by decide⟩ (fun r1 u H locs hr1o hP hD hS => ?_)
  obtain ⟨co_1, rfl⟩ : ∃ z, z = u := ⟨_, rfl⟩
  have hP : va_P D vwCl (mw dI bd sz ln sy wt qu co_1) H := hP
  have hD : va_D A (mw dI bd sz ln sy wt qu co_1) := hD
  have hr1 : r1 = (nI (setOf (fdM sz ln sy qu) 10)) ∧ (∀ q9, co_1 q9 ≤ 100) := hr1o
  obtain ⟨hr1e, hr1⟩ := hr1
  subst hr1e
  refine lv_istore_n (lv' := [(1, .int (nI (setOf (fdM sz ln sy qu) 10))), (0, .ref (bd 0))]) hx hb dX1_count_4 rfl hl (by decide) rfl (fun ls hl => ?_)
  refine lv_iconst (v := (nI 0)) hx hb dX1_count_5 (by decide) ?_
  refine lv_istore_n (lv' := [(2, .int (nI 0)), (1, .int (nI (setOf (fdM sz ln sy qu) 10))), (0, .ref (bd 0))]) hx hb dX1_count_6 rfl hl (by decide) rfl (fun ls hl => ?_)
  refine lv_iconst (v := (nI 0)) hx hb dX1_count_7 (by decide) ?_
  refine lv_istore_n (lv' := [(3, .int (nI 0)), (2, .int (nI 0)), (1, .int (nI (setOf (fdM sz ln sy qu) 10))), (0, .ref (bd 0))]) hx hb dX1_count_8 rfl hl (by decide) rfl (fun ls hl => ?_)
  refine lp_w2 (I := fun (i : Nat) (n : Nat) H locs ls => va_P D vwCl (mw dI bd sz ln sy wt qu co_1) H ∧ va_D A (mw dI bd sz ln sy wt qu co_1) ∧ va_S A s.heap H locs ∧ lv_has ls 4 [(0, .ref (bd 0)), (1, .int (nI (setOf (fdM sz ln sy qu) 10))), (2, .int (nI n)), (3, .int (nI i))] ∧ (i ≤ 10) ∧ (n = cntOf (fdM sz ln sy qu) i)) (μ := fun (i : Nat) (n : Nat) => 10 - i) ?_ 0 0 _ _ _ ⟨hP, hD, hS, lv_sub hl [3, 2, 1, 0] rfl, (Nat.zero_le _), rfl⟩
  intro i n H locs ls hI0 ih9
  obtain ⟨hP, hD, hS, hl, hi, hn⟩ := hI0
  have hl : lv_has ls 4 [(0, .ref (bd 0)), (1, .int (nI (setOf (fdM sz ln sy qu) 10))), (2, .int (nI n)), (3, .int (nI i))] := hl
  have hP : va_P D vwCl (mw dI bd sz ln sy wt qu co_1) H := hP
  have hD : va_D A (mw dI bd sz ln sy wt qu co_1) := hD
  refine lv_iload_n hx hb dX1_count_9 rfl (lv_at hl 3 rfl) ?_
  refine lv_bipush (v := (nI 10)) hx hb dX1_count_10 (by decide) ?_
  refine nv_cge (tgt := 29) hx hb dX1_count_12 (by decide) (by omega) (by omega) (fun c12 => ?_) (fun c12 => ?_)
  · refine lv_iload_n hx hb dX1_count_29 rfl (lv_at hl 2 rfl) ?_
    exact rt_wi hx hb hr hlk dX1_count_30 hK hS co_1 hP hD ⟨congrArg nI (by rw [hn, show i = 10 by omega]), hr1⟩
  · refine lv_iload_n hx hb dX1_count_15 rfl (lv_at hl 2 rfl) ?_
    refine lv_iload_n hx hb dX1_count_16 rfl (lv_at hl 1 rfl) ?_
    refine lv_iload_n hx hb dX1_count_17 rfl (lv_at hl 3 rfl) ?_
    refine nv_ishr hx hb (set_lt31 _) (by omega) dX1_count_18 ?_
    refine lv_iconst (v := (nI 1)) hx hb dX1_count_19 (by decide) ?_
    refine nv_iand hx hb dX1_count_20 ?_
    rw [show ((setOf (fdM sz ln sy qu) 10) >>> i) &&& 1 = Bool.toNat ((setOf (fdM sz ln sy qu) 10).testBit i) from nv_tb1 _ i]
    refine nv_iadd hx hb dX1_count_21 ?_
    refine lv_istore_n (lv' := [(2, .int (nI (n + (Bool.toNat ((setOf (fdM sz ln sy qu) 10).testBit i))))), (0, .ref (bd 0)), (1, .int (nI (setOf (fdM sz ln sy qu) 10))), (3, .int (nI i))]) hx hb dX1_count_22 rfl hl (by decide) rfl (fun ls hl => ?_)
    refine lv_iinc (v := nI (i + 1)) (lv' := [(3, .int (nI (i + 1))), (2, .int (nI (n + (Bool.toNat ((setOf (fdM sz ln sy qu) 10).testBit i))))), (0, .ref (bd 0)), (1, .int (nI (setOf (fdM sz ln sy qu) 10)))]) hx hb dX1_count_23 hl (k := 3) rfl (nv_inc _) (by decide) rfl (fun ls hl => ?_)
    refine lv_goto (tgt := 9) hx hb dX1_count_26 (by decide) ?_
    exact ih9 (i + 1) (n + (Bool.toNat ((setOf (fdM sz ln sy qu) 10).testBit i))) _ _ _ (by first | omega | (dsimp only; omega)) ⟨hP, hD, hS, lv_sub hl [2, 3, 1, 0] rfl, (by omega), (cnt_q (by omega) hn)⟩
set_option maxHeartbeats 4000000 in
/-- before(v, w) -/
theorem metX1_before (l : Launch) (D : va_G) (dI : ClassId) (bd : Nat → Nat) (sz : Nat) (ln sy wt qu co : Nat → Nat) (v : Nat) (w : Nat) (hI : mI sz ln wt sy qu) (hco : ∀ k, co k ≤ 100) (hv : v < 10) (hw : w < 10) (hsz : Nat) : Met l yX1_before (ws_ yX1_before cX1_before 7 (some .boolean)) (rmN 3 72) (PW D [(dI, .int)] (mw dI bd sz ln sy wt qu co) [.ref (bd 0), .int (nI v), .int (nI w)] hsz) (QI D [(dI, .int)] (fun (r : Int32) (u : (Nat → Nat)) => r = (nI (Bool.toNat (gb (edX sz ln sy qu v) (edX sz ln sy qu w) (exB sz ln sy qu v) (exB sz ln sy qu w) (ln v) (ln w) (wt v) (wt w) v w))) ∧ ∀ q9, u q9 ≤ 100) (fun u : (Nat → Nat) => (mw dI bd sz ln sy wt qu u)) (va_A (mw dI bd sz ln sy wt qu co) hsz)) 0 0 (va_A (mw dI bd sz ln sy wt qu co) hsz) := by
  refine en_wi (by decide) (Nat.le_of_ble_eq_true rfl) ?_
  intro p e s m below meth c F hr hlk A hA hK hP hD hS ls hl
  have hx := F.1
  have hb := F.2.1
  have F : CallFix p m c cX1_before 7 s [.ref (bd 0), .int (nI v), .int (nI w)].toArray lw_all RX1 := F
  have hl : lv_has ls 7 [(0, .ref (bd 0)), (1, .int (nI v)), (2, .int (nI w))] := hl
  obtain ⟨hs6, hln, hwt, hsy, hqu⟩ := id hI
  have hev := edX_le sz ln sy qu v
  have hew := edX_le sz ln sy qu w
  refine lv_aload_n hx hb dX1_before_0 rfl (lv_at hl 0 rfl) ?_
  refine lv_iload_n hx hb dX1_before_1 rfl (lv_at hl 1 rfl) ?_
  refine nc_wi (n := 1) (q0 := 0) (ci := 1) (wr := []) F (metX1_edits l D dI bd sz ln sy wt qu co v hI hco (by omega) _) (lw_V q259 q261 qs17 q25 q262) ⟨rfl, rfl⟩ (by decide +kernel) ⟨by decide, by decide⟩ hK hP hD hS hA [0, 1, 2, 3, 4, 5] [] rfl rfl rfl rfl rfl (by decide) rfl rfl rfl rfl hl rfl (Nat.le_of_ble_eq_true rfl) dX1_before_2 ⟨by decide, by decide⟩ (fun r2 u H locs hr2o hP hD hS => ?_)
  obtain ⟨co_1, rfl⟩ : ∃ z, z = u := ⟨_, rfl⟩
  have hP : va_P D vwCl (mw dI bd sz ln sy wt qu co_1) H := hP
  have hD : va_D A (mw dI bd sz ln sy wt qu co_1) := hD
  have hr2 : r2 = (nI (edX sz ln sy qu v)) ∧ (∀ q9, co_1 q9 ≤ 100) := hr2o
  obtain ⟨hr2e, hr2⟩ := hr2
  subst hr2e
  refine lv_istore_n (lv' := [(3, .int (nI (edX sz ln sy qu v))), (0, .ref (bd 0)), (1, .int (nI v)), (2, .int (nI w))]) hx hb dX1_before_5 rfl hl (by decide) rfl (fun ls hl => ?_)
  refine lv_aload_n hx hb dX1_before_6 rfl (lv_at hl 1 rfl) ?_
  refine lv_iload_n hx hb dX1_before_7 rfl (lv_at hl 3 rfl) ?_
  refine nc_wi (n := 1) (q0 := 0) (ci := 1) (wr := []) F (metX1_edits l D dI bd sz ln sy wt qu co_1 w hI hr2 (by omega) _) (lw_V q259 q261 qs17 q25 q262) ⟨rfl, rfl⟩ (by decide +kernel) ⟨by decide, by decide⟩ hK hP hD hS hA [0, 1, 2, 3, 4, 5] [] rfl rfl rfl rfl rfl (by decide) rfl rfl rfl rfl hl rfl (Nat.le_of_ble_eq_true rfl) dX1_before_8 ⟨by decide, by decide⟩ (fun r8 u H locs hr8o hP hD hS => ?_)
  obtain ⟨co_2, rfl⟩ : ∃ z, z = u := ⟨_, rfl⟩
  have hP : va_P D vwCl (mw dI bd sz ln sy wt qu co_2) H := hP
  have hD : va_D A (mw dI bd sz ln sy wt qu co_2) := hD
  have hr8 : r8 = (nI (edX sz ln sy qu w)) ∧ (∀ q9, co_2 q9 ≤ 100) := hr8o
  obtain ⟨hr8e, hr8⟩ := hr8
  subst hr8e
  refine lv_istore (lv' := [(4, .int (nI (edX sz ln sy qu w))), (3, .int (nI (edX sz ln sy qu v))), (0, .ref (bd 0)), (1, .int (nI v)), (2, .int (nI w))]) hx hb dX1_before_11 hl (by decide) rfl (fun ls hl => ?_)
  refine lv_aload_n hx hb dX1_before_13 rfl (lv_at hl 2 rfl) ?_
  refine lv_iload_n hx hb dX1_before_14 rfl (lv_at hl 3 rfl) ?_
  refine nc_ro (n := 1) (q0 := 0) (ci := 1) F (metX1_exact l D dI bd sz ln sy wt qu co_2 v hI (by omega)) (lw_V q296 q298 qs21 q25 q299) ⟨rfl, rfl⟩ (by decide +kernel) ⟨by decide, by decide⟩ hK hP rfl rfl rfl rfl hl rfl (Nat.le_of_ble_eq_true rfl) dX1_before_15 ⟨by decide, by decide⟩ (fun r15 hr15 => ?_)
  have hr15 : r15 = (nI (Bool.toNat (exB sz ln sy qu v))) := hr15
  subst hr15
  refine lv_istore (lv' := [(5, .int (nI (Bool.toNat (exB sz ln sy qu v)))), (4, .int (nI (edX sz ln sy qu w))), (3, .int (nI (edX sz ln sy qu v))), (0, .ref (bd 0)), (1, .int (nI v)), (2, .int (nI w))]) hx hb dX1_before_18 hl (by decide) rfl (fun ls hl => ?_)
  refine lv_aload_n hx hb dX1_before_20 rfl (lv_at hl 3 rfl) ?_
  refine lv_iload_n hx hb dX1_before_21 rfl (lv_at hl 5 rfl) ?_
  refine nc_ro (n := 1) (q0 := 0) (ci := 1) F (metX1_exact l D dI bd sz ln sy wt qu co_2 w hI (by omega)) (lw_V q296 q298 qs21 q25 q299) ⟨rfl, rfl⟩ (by decide +kernel) ⟨by decide, by decide⟩ hK hP rfl rfl rfl rfl hl rfl (Nat.le_of_ble_eq_true rfl) dX1_before_22 ⟨by decide, by decide⟩ (fun r22 hr22 => ?_)
  have hr22 : r22 = (nI (Bool.toNat (exB sz ln sy qu w))) := hr22
  subst hr22
  refine lv_istore (lv' := [(6, .int (nI (Bool.toNat (exB sz ln sy qu w)))), (5, .int (nI (Bool.toNat (exB sz ln sy qu v)))), (4, .int (nI (edX sz ln sy qu w))), (3, .int (nI (edX sz ln sy qu v))), (0, .ref (bd 0)), (1, .int (nI v)), (2, .int (nI w))]) hx hb dX1_before_25 hl (by decide) rfl (fun ls hl => ?_)
  refine lv_iload_n hx hb dX1_before_27 rfl (lv_at hl 3 rfl) ?_
  refine lv_iload hx hb dX1_before_28 (lv_at hl 2 rfl) ?_
  refine nv_ceq (tgt := 45) hx hb dX1_before_30 (by decide) (by omega) (by omega) (fun c30 => ?_) (fun c30 => ?_)
  · refine lv_iload hx hb dX1_before_45 (lv_at hl 1 rfl) ?_
    refine lv_iload hx hb dX1_before_47 (lv_at hl 0 rfl) ?_
    refine nv_bceq (tgt := 55) hx hb dX1_before_49 (by decide) (fun c49 => ?_) (fun c49 => ?_)
    · refine lv_aload_n hx hb dX1_before_55 rfl (lv_at hl 4 rfl) ?_
      refine gm F hK hP rfl 0 (by decide) q199 rfl dX1_before_56 ?_
      refine lv_iload_n hx hb dX1_before_59 rfl (lv_at hl 5 rfl) ?_
      refine nv_iald (f := ln) (n := 10) hx hb hK hP 1 0 rfl rfl (by omega) (by decide) dX1_before_60 ?_
      have hbd3 := hln v
      refine lv_aload_n hx hb dX1_before_61 rfl (lv_at hl 4 rfl) ?_
      refine gm F hK hP rfl 0 (by decide) q199 rfl dX1_before_62 ?_
      refine lv_iload_n hx hb dX1_before_65 rfl (lv_at hl 6 rfl) ?_
      refine nv_iald (f := ln) (n := 10) hx hb hK hP 1 0 rfl rfl (by omega) (by decide) dX1_before_66 ?_
      have hbd4 := hln w
      refine nv_ceq (tgt := 91) hx hb dX1_before_67 (by decide) (by omega) (by omega) (fun c67 => ?_) (fun c67 => ?_)
      · refine lv_aload_n hx hb dX1_before_91 rfl (lv_at hl 4 rfl) ?_
        refine gm F hK hP rfl 2 (by decide) q201 rfl dX1_before_92 ?_
        refine lv_iload_n hx hb dX1_before_95 rfl (lv_at hl 5 rfl) ?_
        refine nv_iald (f := wt) (n := 10) hx hb hK hP 3 0 rfl rfl (by omega) (by decide) dX1_before_96 ?_
        have hbd5 := hwt v
        refine lv_aload_n hx hb dX1_before_97 rfl (lv_at hl 4 rfl) ?_
        refine gm F hK hP rfl 2 (by decide) q201 rfl dX1_before_98 ?_
        refine lv_iload_n hx hb dX1_before_101 rfl (lv_at hl 6 rfl) ?_
        refine nv_iald (f := wt) (n := 10) hx hb hK hP 3 0 rfl rfl (by omega) (by decide) dX1_before_102 ?_
        have hbd6 := hwt w
        refine nv_cgt (tgt := 126) hx hb dX1_before_103 (by decide) (by omega) (by omega) (fun c103 => ?_) (fun c103 => ?_)
        · refine lv_iconst (v := (nI 1)) hx hb dX1_before_126 (by decide) ?_
          refine lv_goto (tgt := 131) hx hb dX1_before_127 (by decide) ?_
          exact rt_wz hx hb hr hlk dX1_before_131 rfl hK hS co_2 hP hD ⟨by unfold gb; rw [if_pos c30, if_pos c49, if_pos c67, if_neg (by omega), decide_eq_true (by omega)]; rfl, hr8⟩
        · refine lv_aload_n hx hb dX1_before_106 rfl (lv_at hl 4 rfl) ?_
          refine gm F hK hP rfl 2 (by decide) q201 rfl dX1_before_107 ?_
          refine lv_iload_n hx hb dX1_before_110 rfl (lv_at hl 5 rfl) ?_
          refine nv_iald (f := wt) (n := 10) hx hb hK hP 3 0 rfl rfl (by omega) (by decide) dX1_before_111 ?_
          have hbd7 := hwt v
          refine lv_aload_n hx hb dX1_before_112 rfl (lv_at hl 4 rfl) ?_
          refine gm F hK hP rfl 2 (by decide) q201 rfl dX1_before_113 ?_
          refine lv_iload_n hx hb dX1_before_116 rfl (lv_at hl 6 rfl) ?_
          refine nv_iald (f := wt) (n := 10) hx hb hK hP 3 0 rfl rfl (by omega) (by decide) dX1_before_117 ?_
          have hbd8 := hwt w
          refine nv_cne (tgt := 130) hx hb dX1_before_118 (by decide) (by omega) (by omega) (fun c118 => ?_) (fun c118 => ?_)
          · refine lv_iconst (v := (nI 0)) hx hb dX1_before_130 (by decide) ?_
            exact rt_wz hx hb hr hlk dX1_before_131 rfl hK hS co_2 hP hD ⟨by unfold gb; rw [if_pos c30, if_pos c49, if_pos c67, if_neg (by omega), decide_eq_false (by omega)]; rfl, hr8⟩
          · refine lv_iload_n hx hb dX1_before_121 rfl (lv_at hl 5 rfl) ?_
            refine lv_iload_n hx hb dX1_before_122 rfl (lv_at hl 6 rfl) ?_
            refine nv_cge (tgt := 130) hx hb dX1_before_123 (by decide) (by omega) (by omega) (fun c123 => ?_) (fun c123 => ?_)
            · refine lv_iconst (v := (nI 0)) hx hb dX1_before_130 (by decide) ?_
              exact rt_wz hx hb hr hlk dX1_before_131 rfl hK hS co_2 hP hD ⟨by unfold gb; rw [if_pos c30, if_pos c49, if_pos c67, if_pos c118, decide_eq_false (by omega)]; rfl, hr8⟩
            · refine lv_iconst (v := (nI 1)) hx hb dX1_before_126 (by decide) ?_
              refine lv_goto (tgt := 131) hx hb dX1_before_127 (by decide) ?_
              exact rt_wz hx hb hr hlk dX1_before_131 rfl hK hS co_2 hP hD ⟨by unfold gb; rw [if_pos c30, if_pos c49, if_pos c67, if_pos c118, decide_eq_true (by omega)]; rfl, hr8⟩
      · refine lv_aload_n hx hb dX1_before_70 rfl (lv_at hl 4 rfl) ?_
        refine gm F hK hP rfl 0 (by decide) q199 rfl dX1_before_71 ?_
        refine lv_iload_n hx hb dX1_before_74 rfl (lv_at hl 5 rfl) ?_
        refine nv_iald (f := ln) (n := 10) hx hb hK hP 1 0 rfl rfl (by omega) (by decide) dX1_before_75 ?_
        have hbd9 := hln v
        refine lv_aload_n hx hb dX1_before_76 rfl (lv_at hl 4 rfl) ?_
        refine gm F hK hP rfl 0 (by decide) q199 rfl dX1_before_77 ?_
        refine lv_iload_n hx hb dX1_before_80 rfl (lv_at hl 6 rfl) ?_
        refine nv_iald (f := ln) (n := 10) hx hb hK hP 1 0 rfl rfl (by omega) (by decide) dX1_before_81 ?_
        have hbd10 := hln w
        refine nv_cge (tgt := 89) hx hb dX1_before_82 (by decide) (by omega) (by omega) (fun c82 => ?_) (fun c82 => ?_)
        · refine lv_iconst (v := (nI 0)) hx hb dX1_before_89 (by decide) ?_
          exact rt_wz hx hb hr hlk dX1_before_90 rfl hK hS co_2 hP hD ⟨by unfold gb; rw [if_pos c30, if_pos c49, if_neg c67, decide_eq_false (by omega)]; rfl, hr8⟩
        · refine lv_iconst (v := (nI 1)) hx hb dX1_before_85 (by decide) ?_
          refine lv_goto (tgt := 90) hx hb dX1_before_86 (by decide) ?_
          exact rt_wz hx hb hr hlk dX1_before_90 rfl hK hS co_2 hP hD ⟨by unfold gb; rw [if_pos c30, if_pos c49, if_neg c67, decide_eq_true (by omega)]; rfl, hr8⟩
    · refine lv_iload hx hb dX1_before_52 (lv_at hl 1 rfl) ?_
      exact rt_wz hx hb hr hlk dX1_before_54 (nv_nz _) hK hS co_2 hP hD ⟨by unfold gb; rw [if_pos c30, if_neg c49], hr8⟩
  · refine lv_iload_n hx hb dX1_before_33 rfl (lv_at hl 3 rfl) ?_
    refine lv_iload hx hb dX1_before_34 (lv_at hl 2 rfl) ?_
    refine nv_cge (tgt := 43) hx hb dX1_before_36 (by decide) (by omega) (by omega) (fun c36 => ?_) (fun c36 => ?_)
    · refine lv_iconst (v := (nI 0)) hx hb dX1_before_43 (by decide) ?_
      exact rt_wz hx hb hr hlk dX1_before_44 rfl hK hS co_2 hP hD ⟨by unfold gb; rw [if_neg c30, decide_eq_false (by omega)]; rfl, hr8⟩
    · refine lv_iconst (v := (nI 1)) hx hb dX1_before_39 (by decide) ?_
      refine lv_goto (tgt := 44) hx hb dX1_before_40 (by decide) ?_
      exact rt_wz hx hb hr hlk dX1_before_44 rfl hK hS co_2 hP hD ⟨by unfold gb; rw [if_neg c30, decide_eq_true (by omega)]; rfl, hr8⟩
set_option maxHeartbeats 4000000 in
/-- place(w) -/
theorem metX1_place (l : Launch) (D : va_G) (dI : ClassId) (bd : Nat → Nat) (sz : Nat) (ln sy wt qu co : Nat → Nat) (w : Int32) (hI : mI sz ln wt sy qu) (hco : ∀ k, co k ≤ 100) (hsz : Nat) : Met l yX1_place (ws_ yX1_place cX1_place 4 (some .int)) (rmN 4 98) (PW D [(dI, .int)] (mw dI bd sz ln sy wt qu co) [.ref (bd 0), .int w] hsz) (QI D [(dI, .int)] (fun (r : Int32) (u : (Nat → Nat)) => r = (tyF (inF 10 (fdM sz ln sy qu) w) (plM sz ln wt sy qu w.toInt.toNat)) ∧ ∀ q9, u q9 ≤ 100) (fun u : (Nat → Nat) => (mw dI bd sz ln sy wt qu u)) (va_A (mw dI bd sz ln sy wt qu co) hsz)) 0 0 (va_A (mw dI bd sz ln sy wt qu co) hsz) := by
  refine en_wi (by decide) (Nat.le_of_ble_eq_true rfl) ?_
  intro p e s m below meth c F hr hlk A hA hK hP hD hS ls hl
  have hx := F.1
  have hb := F.2.1
  have F : CallFix p m c cX1_place 4 s [.ref (bd 0), .int w].toArray lw_all RX1 := F
  have hl : lv_has ls 4 [(0, .ref (bd 0)), (1, .int w)] := hl
  obtain ⟨hs6, hln, hwt, hsy, hqu⟩ := id hI
  refine lv_aload_n hx hb dX1_place_0 rfl (lv_at hl 0 rfl) ?_
  refine lv_iload_n hx hb dX1_place_1 rfl (lv_at hl 1 rfl) ?_
  refine nc_wi (n := 1) (q0 := 0) (ci := 1) (wr := []) F (metX1_isFound l D dI bd sz ln sy wt qu co w hI hco _) (lw_V q255 q257 qs16 q25 q258) ⟨rfl, rfl⟩ (by decide +kernel) ⟨by decide, by decide⟩ hK hP hD hS hA [0, 1, 2, 3, 4, 5] [] rfl rfl rfl rfl rfl (by decide) rfl rfl rfl rfl hl rfl (Nat.le_of_ble_eq_true rfl) dX1_place_2 ⟨by decide, by decide⟩ (fun r2 u H locs hr2o hP hD hS => ?_)
  obtain ⟨co_1, rfl⟩ : ∃ z, z = u := ⟨_, rfl⟩
  have hP : va_P D vwCl (mw dI bd sz ln sy wt qu co_1) H := hP
  have hD : va_D A (mw dI bd sz ln sy wt qu co_1) := hD
  have hr2 : r2 = (nI (Bool.toNat (inF 10 (fdM sz ln sy qu) w))) ∧ (∀ q9, co_1 q9 ≤ 100) := hr2o
  obtain ⟨hr2e, hr2⟩ := hr2
  subst hr2e
  refine nv_bne (tgt := 10) hx hb dX1_place_5 (by decide) (fun c5 => ?_) (fun c5 => ?_)
  · obtain ⟨j, hj, rfl, hpj⟩ := inF_ex c5
    refine lv_iconst (v := (nI 0)) hx hb dX1_place_10 (by decide) ?_
    refine lv_istore_n (lv' := [(2, .int (nI 0)), (0, .ref (bd 0)), (1, .int (nI j))]) hx hb dX1_place_11 rfl hl (by decide) rfl (fun ls hl => ?_)
    refine lv_iconst (v := (nI 0)) hx hb dX1_place_12 (by decide) ?_
    refine lv_istore_n (lv' := [(3, .int (nI 0)), (2, .int (nI 0)), (0, .ref (bd 0)), (1, .int (nI j))]) hx hb dX1_place_13 rfl hl (by decide) rfl (fun ls hl => ?_)
    refine lp_w3 (I := fun (i : Nat) (n : Nat) (d : Nat → Nat) H locs ls => va_P D vwCl (mw dI bd sz ln sy wt qu d) H ∧ va_D A (mw dI bd sz ln sy wt qu d) ∧ va_S A s.heap H locs ∧ lv_has ls 4 [(0, .ref (bd 0)), (1, .int (nI j)), (2, .int (nI n)), (3, .int (nI i))] ∧ (i ≤ 10) ∧ (n = cntOf (fun v => decide (v ≠ j) && (fdM sz ln sy qu v && gb (edX sz ln sy qu v) (edX sz ln sy qu j) (exB sz ln sy qu v) (exB sz ln sy qu j) (ln v) (ln j) (wt v) (wt j) v j)) i) ∧ (∀ k, d k ≤ 100)) (μ := fun (i : Nat) (n : Nat) (d : Nat → Nat) => 10 - i) ?_ 0 0 co_1 _ _ _ ⟨hP, hD, hS, lv_sub hl [2, 3, 1, 0] rfl, (Nat.zero_le _), rfl, hr2⟩
    intro i n d H locs ls hI0 ih14
    obtain ⟨hP, hD, hS, hl, hi, hn, hd⟩ := hI0
    have hl : lv_has ls 4 [(0, .ref (bd 0)), (1, .int (nI j)), (2, .int (nI n)), (3, .int (nI i))] := hl
    have hP : va_P D vwCl (mw dI bd sz ln sy wt qu d) H := hP
    have hD : va_D A (mw dI bd sz ln sy wt qu d) := hD
    refine lv_iload_n hx hb dX1_place_14 rfl (lv_at hl 3 rfl) ?_
    refine lv_bipush (v := (nI 10)) hx hb dX1_place_15 (by decide) ?_
    refine nv_cge (tgt := 56) hx hb dX1_place_17 (by decide) (by omega) (by omega) (fun c17 => ?_) (fun c17 => ?_)
    · refine lv_iload_n hx hb dX1_place_56 rfl (lv_at hl 2 rfl) ?_
      exact rt_wi hx hb hr hlk dX1_place_57 hK hS d hP hD ⟨by rw [← tyF_t c5, nI_tn hj, hn, show i = 10 by omega]; rfl, hd⟩
    · refine lv_iload_n hx hb dX1_place_20 rfl (lv_at hl 3 rfl) ?_
      refine lv_iload_n hx hb dX1_place_21 rfl (lv_at hl 1 rfl) ?_
      refine nv_ceq (tgt := 48) hx hb dX1_place_22 (by decide) (by omega) (by omega) (fun c22 => ?_) (fun c22 => ?_)
      · refine lv_iload_n hx hb dX1_place_48 rfl (lv_at hl 2 rfl) ?_
        refine lv_istore_n (lv' := [(2, .int (nI n)), (0, .ref (bd 0)), (1, .int (nI j)), (3, .int (nI i))]) hx hb dX1_place_49 rfl hl (by decide) rfl (fun ls hl => ?_)
        refine lv_iinc (v := nI (i + 1)) (lv' := [(3, .int (nI (i + 1))), (2, .int (nI n)), (0, .ref (bd 0)), (1, .int (nI j))]) hx hb dX1_place_50 hl (k := 3) rfl (nv_inc _) (by decide) rfl (fun ls hl => ?_)
        refine lv_goto (tgt := 14) hx hb dX1_place_53 (by decide) ?_
        exact ih14 (i + 1) n d _ _ _ (by first | omega | (dsimp only; omega)) ⟨hP, hD, hS, lv_sub hl [2, 3, 1, 0] rfl, (by omega), (cnt_s (b := false) hn (by simp [c22])), hd⟩
      · refine lv_aload_n hx hb dX1_place_25 rfl (lv_at hl 0 rfl) ?_
        refine lv_iload_n hx hb dX1_place_26 rfl (lv_at hl 3 rfl) ?_
        refine nc_wi (n := 1) (q0 := 0) (ci := 1) (wr := []) F (metX1_isFound l D dI bd sz ln sy wt qu d (nI i) hI hd _) (lw_V q255 q257 qs16 q25 q258) ⟨rfl, rfl⟩ (by decide +kernel) ⟨by decide, by decide⟩ hK hP hD hS hA [0, 1, 2, 3, 4, 5] [] rfl rfl rfl rfl rfl (by decide) rfl rfl rfl rfl hl rfl (Nat.le_of_ble_eq_true rfl) dX1_place_27 ⟨by decide, by decide⟩ (fun r27 u H locs hr27o hP hD hS => ?_)
        obtain ⟨co_2, rfl⟩ : ∃ z, z = u := ⟨_, rfl⟩
        have hP : va_P D vwCl (mw dI bd sz ln sy wt qu co_2) H := hP
        have hD : va_D A (mw dI bd sz ln sy wt qu co_2) := hD
        have hr27 : r27 = (nI (Bool.toNat (inF 10 (fdM sz ln sy qu) ((nI i))))) ∧ (∀ q9, co_2 q9 ≤ 100) := hr27o
        obtain ⟨hr27e, hr27⟩ := hr27
        subst hr27e
        refine nv_beq (tgt := 48) hx hb dX1_place_30 (by decide) (fun c30 => ?_) (fun c30 => ?_)
        · rw [inF_n (by omega) (by decide)] at c30
          refine lv_iload_n hx hb dX1_place_48 rfl (lv_at hl 2 rfl) ?_
          refine lv_istore_n (lv' := [(2, .int (nI n)), (0, .ref (bd 0)), (1, .int (nI j)), (3, .int (nI i))]) hx hb dX1_place_49 rfl hl (by decide) rfl (fun ls hl => ?_)
          refine lv_iinc (v := nI (i + 1)) (lv' := [(3, .int (nI (i + 1))), (2, .int (nI n)), (0, .ref (bd 0)), (1, .int (nI j))]) hx hb dX1_place_50 hl (k := 3) rfl (nv_inc _) (by decide) rfl (fun ls hl => ?_)
          refine lv_goto (tgt := 14) hx hb dX1_place_53 (by decide) ?_
          exact ih14 (i + 1) n co_2 _ _ _ (by first | omega | (dsimp only; omega)) ⟨hP, hD, hS, lv_sub hl [2, 3, 1, 0] rfl, (by omega), (cnt_s (b := false) hn (by simp [c30])), hr27⟩
        · rw [inF_n (by omega) (by decide)] at c30
          refine lv_aload_n hx hb dX1_place_33 rfl (lv_at hl 0 rfl) ?_
          refine lv_iload_n hx hb dX1_place_34 rfl (lv_at hl 3 rfl) ?_
          refine lv_iload_n hx hb dX1_place_35 rfl (lv_at hl 1 rfl) ?_
          refine nc_wi (n := 2) (q0 := 0) (ci := 1) (wr := []) F (metX1_before l D dI bd sz ln sy wt qu co_2 i j hI hr27 (by omega) (by omega) _) (lw_V q292 q294 qs20 q25 q295) ⟨rfl, rfl⟩ (by decide +kernel) ⟨by decide, by decide⟩ hK hP hD hS hA [0, 1, 2, 3, 4, 5] [] rfl rfl rfl rfl rfl (by decide) rfl rfl rfl rfl hl rfl (Nat.le_of_ble_eq_true rfl) dX1_place_36 ⟨by decide, by decide⟩ (fun r36 u H locs hr36o hP hD hS => ?_)
          obtain ⟨co_3, rfl⟩ : ∃ z, z = u := ⟨_, rfl⟩
          have hP : va_P D vwCl (mw dI bd sz ln sy wt qu co_3) H := hP
          have hD : va_D A (mw dI bd sz ln sy wt qu co_3) := hD
          have hr36 : r36 = (nI (Bool.toNat (gb (edX sz ln sy qu i) (edX sz ln sy qu j) (exB sz ln sy qu i) (exB sz ln sy qu j) (ln i) (ln j) (wt i) (wt j) i j))) ∧ (∀ q9, co_3 q9 ≤ 100) := hr36o
          obtain ⟨hr36e, hr36⟩ := hr36
          subst hr36e
          refine nv_beq (tgt := 48) hx hb dX1_place_39 (by decide) (fun c39 => ?_) (fun c39 => ?_)
          · refine lv_iload_n hx hb dX1_place_48 rfl (lv_at hl 2 rfl) ?_
            refine lv_istore_n (lv' := [(2, .int (nI n)), (0, .ref (bd 0)), (1, .int (nI j)), (3, .int (nI i))]) hx hb dX1_place_49 rfl hl (by decide) rfl (fun ls hl => ?_)
            refine lv_iinc (v := nI (i + 1)) (lv' := [(3, .int (nI (i + 1))), (2, .int (nI n)), (0, .ref (bd 0)), (1, .int (nI j))]) hx hb dX1_place_50 hl (k := 3) rfl (nv_inc _) (by decide) rfl (fun ls hl => ?_)
            refine lv_goto (tgt := 14) hx hb dX1_place_53 (by decide) ?_
            exact ih14 (i + 1) n co_3 _ _ _ (by first | omega | (dsimp only; omega)) ⟨hP, hD, hS, lv_sub hl [2, 3, 1, 0] rfl, (by omega), (cnt_s (b := false) hn (by simp [c39])), hr36⟩
          · refine lv_iload_n hx hb dX1_place_42 rfl (lv_at hl 2 rfl) ?_
            refine lv_iconst (v := (nI 1)) hx hb dX1_place_43 (by decide) ?_
            refine nv_iadd hx hb dX1_place_44 ?_
            refine lv_goto (tgt := 49) hx hb dX1_place_45 (by decide) ?_
            refine lv_istore_n (lv' := [(2, .int (nI (n + 1))), (0, .ref (bd 0)), (1, .int (nI j)), (3, .int (nI i))]) hx hb dX1_place_49 rfl hl (by decide) rfl (fun ls hl => ?_)
            refine lv_iinc (v := nI (i + 1)) (lv' := [(3, .int (nI (i + 1))), (2, .int (nI (n + 1))), (0, .ref (bd 0)), (1, .int (nI j))]) hx hb dX1_place_50 hl (k := 3) rfl (nv_inc _) (by decide) rfl (fun ls hl => ?_)
            refine lv_goto (tgt := 14) hx hb dX1_place_53 (by decide) ?_
            exact ih14 (i + 1) (n + 1) co_3 _ _ _ (by first | omega | (dsimp only; omega)) ⟨hP, hD, hS, lv_sub hl [2, 3, 1, 0] rfl, (by omega), (cnt_s (b := true) hn (by simp [c22, c30, c39])), hr36⟩
  · refine lv_iconst (v := ((-1))) hx hb dX1_place_8 (by decide) ?_
    exact rt_wi hx hb hr hlk dX1_place_9 hK hS co_1 hP hD ⟨tyF_f c5, hr2⟩
set_option maxHeartbeats 4000000 in
/-- at(k) -/
theorem metX1_at (l : Launch) (D : va_G) (dI : ClassId) (bd : Nat → Nat) (sz : Nat) (ln sy wt qu co : Nat → Nat) (k : Int32) (hI : mI sz ln wt sy qu) (hco : ∀ k, co k ≤ 100) (hsz : Nat) : Met l yX1_at (ws_ yX1_at cX1_at 3 (some .int)) (rmN 5 121) (PW D [(dI, .int)] (mw dI bd sz ln sy wt qu co) [.ref (bd 0), .int k] hsz) (QI D [(dI, .int)] (fun (r : Int32) (u : (Nat → Nat)) => atR (fdM sz ln sy qu) (plM sz ln wt sy qu) k r ∧ ∀ q9, u q9 ≤ 100) (fun u : (Nat → Nat) => (mw dI bd sz ln sy wt qu u)) (va_A (mw dI bd sz ln sy wt qu co) hsz)) 0 0 (va_A (mw dI bd sz ln sy wt qu co) hsz) := by
  refine en_wi (by decide) (Nat.le_of_ble_eq_true rfl) ?_
  intro p e s m below meth c F hr hlk A hA hK hP hD hS ls hl
  have hx := F.1
  have hb := F.2.1
  have F : CallFix p m c cX1_at 3 s [.ref (bd 0), .int k].toArray lw_all RX1 := F
  have hl : lv_has ls 3 [(0, .ref (bd 0)), (1, .int k)] := hl
  obtain ⟨hs6, hln, hwt, hsy, hqu⟩ := id hI
  refine lv_iconst (v := (nI 0)) hx hb dX1_at_0 (by decide) ?_
  refine lv_istore_n (lv' := [(2, .int (nI 0)), (0, .ref (bd 0)), (1, .int k)]) hx hb dX1_at_1 rfl hl (by decide) rfl (fun ls hl => ?_)
  refine lp_w2 (I := fun (i : Nat) (d : Nat → Nat) H locs ls => va_P D vwCl (mw dI bd sz ln sy wt qu d) H ∧ va_D A (mw dI bd sz ln sy wt qu d) ∧ va_S A s.heap H locs ∧ lv_has ls 3 [(0, .ref (bd 0)), (1, .int k), (2, .int (nI i))] ∧ (i ≤ 10) ∧ (∀ v, v < i → (fdM sz ln sy qu v && decide (nI (plM sz ln wt sy qu v) = k)) = false) ∧ (∀ k, d k ≤ 100)) (μ := fun (i : Nat) (d : Nat → Nat) => 10 - i) ?_ 0 co _ _ _ ⟨hP, hD, hS, lv_sub hl [1, 2, 0] rfl, (Nat.zero_le _), (fun v hv => absurd hv (Nat.not_lt_zero v)), hco⟩
  intro i d H locs ls hI0 ih2
  obtain ⟨hP, hD, hS, hl, hi, hno, hd⟩ := hI0
  have hl : lv_has ls 3 [(0, .ref (bd 0)), (1, .int k), (2, .int (nI i))] := hl
  have hP : va_P D vwCl (mw dI bd sz ln sy wt qu d) H := hP
  have hD : va_D A (mw dI bd sz ln sy wt qu d) := hD
  refine lv_iload_n hx hb dX1_at_2 rfl (lv_at hl 2 rfl) ?_
  refine lv_bipush (v := (nI 10)) hx hb dX1_at_3 (by decide) ?_
  refine nv_cge (tgt := 33) hx hb dX1_at_5 (by decide) (by omega) (by omega) (fun c5 => ?_) (fun c5 => ?_)
  · refine lv_iconst (v := ((-1))) hx hb dX1_at_33 (by decide) ?_
    exact rt_wi hx hb hr hlk dX1_at_34 hK hS d hP hD ⟨Or.inr ⟨fun v hv => hno v (by omega), rfl⟩, hd⟩
  · refine lv_aload_n hx hb dX1_at_8 rfl (lv_at hl 0 rfl) ?_
    refine lv_iload_n hx hb dX1_at_9 rfl (lv_at hl 2 rfl) ?_
    refine nc_wi (n := 1) (q0 := 0) (ci := 1) (wr := []) F (metX1_isFound l D dI bd sz ln sy wt qu d (nI i) hI hd _) (lw_V q255 q257 qs16 q25 q258) ⟨rfl, rfl⟩ (by decide +kernel) ⟨by decide, by decide⟩ hK hP hD hS hA [0, 1, 2, 3, 4, 5] [] rfl rfl rfl rfl rfl (by decide) rfl rfl rfl rfl hl rfl (Nat.le_of_ble_eq_true rfl) dX1_at_10 ⟨by decide, by decide⟩ (fun r10 u H locs hr10o hP hD hS => ?_)
    obtain ⟨co_1, rfl⟩ : ∃ z, z = u := ⟨_, rfl⟩
    have hP : va_P D vwCl (mw dI bd sz ln sy wt qu co_1) H := hP
    have hD : va_D A (mw dI bd sz ln sy wt qu co_1) := hD
    have hr10 : r10 = (nI (Bool.toNat (inF 10 (fdM sz ln sy qu) ((nI i))))) ∧ (∀ q9, co_1 q9 ≤ 100) := hr10o
    obtain ⟨hr10e, hr10⟩ := hr10
    subst hr10e
    refine nv_beq (tgt := 27) hx hb dX1_at_13 (by decide) (fun c13 => ?_) (fun c13 => ?_)
    · rw [inF_n (by omega) (by decide)] at c13
      refine lv_iinc (v := nI (i + 1)) (lv' := [(2, .int (nI (i + 1))), (0, .ref (bd 0)), (1, .int k)]) hx hb dX1_at_27 hl (k := 2) rfl (nv_inc _) (by decide) rfl (fun ls hl => ?_)
      refine lv_goto (tgt := 2) hx hb dX1_at_30 (by decide) ?_
      exact ih2 (i + 1) co_1 _ _ _ (by first | omega | (dsimp only; omega)) ⟨hP, hD, hS, lv_sub hl [1, 2, 0] rfl, (by omega), (lt_s hno (by rw [c13]; rfl)), hr10⟩
    · rw [inF_n (by omega) (by decide)] at c13
      refine lv_aload_n hx hb dX1_at_16 rfl (lv_at hl 0 rfl) ?_
      refine lv_iload_n hx hb dX1_at_17 rfl (lv_at hl 2 rfl) ?_
      refine nc_wi (n := 1) (q0 := 0) (ci := 1) (wr := []) F (metX1_place l D dI bd sz ln sy wt qu co_1 (nI i) hI hr10 _) (lw_V q288 q289 q290 q25 q291) ⟨rfl, rfl⟩ (by decide +kernel) ⟨by decide, by decide⟩ hK hP hD hS hA [0, 1, 2, 3, 4, 5] [] rfl rfl rfl rfl rfl (by decide) rfl rfl rfl rfl hl rfl (Nat.le_of_ble_eq_true rfl) dX1_at_18 ⟨by decide, by decide⟩ (fun r18 u H locs hr18o hP hD hS => ?_)
      obtain ⟨co_2, rfl⟩ : ∃ z, z = u := ⟨_, rfl⟩
      have hP : va_P D vwCl (mw dI bd sz ln sy wt qu co_2) H := hP
      have hD : va_D A (mw dI bd sz ln sy wt qu co_2) := hD
      have hr18 : r18 = (tyF (inF 10 (fdM sz ln sy qu) ((nI i))) (plM sz ln wt sy qu ((nI i)).toInt.toNat)) ∧ (∀ q9, co_2 q9 ≤ 100) := hr18o
      obtain ⟨hr18e, hr18⟩ := hr18
      subst hr18e
      rw [← tyF_t (show inF 10 (fdM sz ln sy qu) (nI i) = true by rw [inF_n (by omega) (by decide)]; exact c13), nI_tn (by omega)]
      refine lv_iload_n hx hb dX1_at_21 rfl (lv_at hl 1 rfl) ?_
      refine lv_icmp_ne (tgt := 27) hx hb dX1_at_22 (by decide) (fun c22 => ?_) (fun c22 => ?_)
      · refine lv_iinc (v := nI (i + 1)) (lv' := [(2, .int (nI (i + 1))), (0, .ref (bd 0)), (1, .int k)]) hx hb dX1_at_27 hl (k := 2) rfl (nv_inc _) (by decide) rfl (fun ls hl => ?_)
        refine lv_goto (tgt := 2) hx hb dX1_at_30 (by decide) ?_
        exact ih2 (i + 1) co_2 _ _ _ (by first | omega | (dsimp only; omega)) ⟨hP, hD, hS, lv_sub hl [1, 2, 0] rfl, (by omega), (lt_s hno (by rw [c13, decide_eq_false c22]; rfl)), hr18⟩
      · refine lv_iload_n hx hb dX1_at_25 rfl (lv_at hl 2 rfl) ?_
        exact rt_wi hx hb hr hlk dX1_at_26 hK hS co_2 hP hD ⟨Or.inl ⟨i, ⟨by omega, by simp [c13, c22], hno⟩, rfl⟩, hr18⟩
set_option maxHeartbeats 4000000 in
/-- begin(x, y) -/
theorem metX1_begin (l : Launch) (D : va_G) (dI : ClassId) (bd : Nat → Nat) (sz : Nat) (ln sy wt qu co : Nat → Nat) (x : Int32) (y : Int32) (hI : mI sz ln wt sy qu) (hco : ∀ k, co k ≤ 100) (hsz : Nat) : Met l yX1_begin (ws_ yX1_begin cX1_begin 4 (some .int)) (rmN 0 0) (PW D [(dI, .int)] (mw dI bd sz ln sy wt qu co) [.ref (bd 0), .int x, .int y] hsz) (QI D [(dI, .int)] (fun (r : Int32) (u : (Nat → Nat) × (Nat → Nat) × (Nat → Nat)) => bgR (fun v => !isB ln v) x y r (u.1 = ln ∧ u.2.1 = sy ∧ u.2.2 = wt) (fun j k w => u.1 = upN ln w 1 ∧ u.2.2 = upN wt w k ∧ u.2.1 = upN sy (6 * w) j)) (fun u : (Nat → Nat) × (Nat → Nat) × (Nat → Nat) => (mw dI bd sz u.1 u.2.1 u.2.2 qu co)) (va_A (mw dI bd sz ln sy wt qu co) hsz)) 0 0 (va_A (mw dI bd sz ln sy wt qu co) hsz) := by
  refine en_wi (by decide) (Nat.le_of_ble_eq_true rfl) ?_
  intro p e s m below meth c F hr hlk A hA hK hP hD hS ls hl
  have hx := F.1
  have hb := F.2.1
  have F : CallFix p m c cX1_begin 4 s [.ref (bd 0), .int x, .int y].toArray lw_all RX1 := F
  have hl : lv_has ls 4 [(0, .ref (bd 0)), (1, .int x), (2, .int y)] := hl
  obtain ⟨hs6, hln, hwt, hsy, hqu⟩ := id hI
  refine lv_iload_n hx hb dX1_begin_0 rfl (lv_at hl 1 rfl) ?_
  refine lv_if_lt (tgt := 19) hx hb dX1_begin_1 (by decide) (fun c1 => ?_) (fun c1 => ?_)
  · refine lv_iconst (v := ((-1))) hx hb dX1_begin_19 (by decide) ?_
    exact rt_wi hx hb hr hlk dX1_begin_20 hK hS (ln, sy, wt) hP hD (Or.inl ⟨by rw [show smF x = false from inF_lo (rg_neg c1)]; rfl, rfl, rfl, rfl, rfl⟩)
  · refine lv_iload_n hx hb dX1_begin_4 rfl (lv_at hl 1 rfl) ?_
    refine lv_iconst (v := (nI 3)) hx hb dX1_begin_5 (by decide) ?_
    refine lv_icmp_gt (tgt := 19) hx hb dX1_begin_6 (by decide) (fun c6 => ?_) (fun c6 => ?_)
    · refine lv_iconst (v := ((-1))) hx hb dX1_begin_19 (by decide) ?_
      exact rt_wi hx hb hr hlk dX1_begin_20 hK hS (ln, sy, wt) hP hD (Or.inl ⟨by rw [show smF x = false from inF_hi (by have := rg_lt (by decide) c6; omega)]; rfl, rfl, rfl, rfl, rfl⟩)
    · refine lv_iload_n hx hb dX1_begin_9 rfl (lv_at hl 2 rfl) ?_
      refine lv_if_lt (tgt := 19) hx hb dX1_begin_10 (by decide) (fun c10 => ?_) (fun c10 => ?_)
      · refine lv_iconst (v := ((-1))) hx hb dX1_begin_19 (by decide) ?_
        exact rt_wi hx hb hr hlk dX1_begin_20 hK hS (ln, sy, wt) hP hD (Or.inl ⟨by rw [show wgF y = false from inF_lo (rg_neg c10)]; simp, rfl, rfl, rfl, rfl⟩)
      · refine lv_iload_n hx hb dX1_begin_13 rfl (lv_at hl 2 rfl) ?_
        refine lv_bipush (v := (nI 9)) hx hb dX1_begin_14 (by decide) ?_
        refine lv_icmp_le (tgt := 21) hx hb dX1_begin_16 (by decide) (fun c16 => ?_) (fun c16 => ?_)
        · obtain ⟨j, hj, rfl⟩ := rg_ng (by decide) c1 c6
          obtain ⟨k, hk, rfl⟩ := rg_le (by decide) c10 c16
          refine lv_iconst (v := (nI 0)) hx hb dX1_begin_21 (by decide) ?_
          refine lv_istore_n (lv' := [(3, .int (nI 0)), (0, .ref (bd 0)), (1, .int (nI j)), (2, .int (nI k))]) hx hb dX1_begin_22 rfl hl (by decide) rfl (fun ls hl => ?_)
          refine lp_w1 (I := fun (i : Nat) H locs ls => va_P D vwCl (mw dI bd sz ln sy wt qu co) H ∧ va_D A (mw dI bd sz ln sy wt qu co) ∧ va_S A s.heap H locs ∧ lv_has ls 4 [(0, .ref (bd 0)), (1, .int (nI j)), (2, .int (nI k)), (3, .int (nI i))] ∧ (i ≤ 10) ∧ (∀ v, v < i → (!isB ln v) = false)) (μ := fun (i : Nat) => 10 - i) ?_ 0 _ _ _ ⟨hP, hD, hS, lv_sub hl [1, 2, 3, 0] rfl, (Nat.zero_le _), (fun v hv => absurd hv (Nat.not_lt_zero v))⟩
          intro i H locs ls hI0 ih23
          obtain ⟨hP, hD, hS, hl, hi, hno⟩ := hI0
          have hl : lv_has ls 4 [(0, .ref (bd 0)), (1, .int (nI j)), (2, .int (nI k)), (3, .int (nI i))] := hl
          have hP : va_P D vwCl (mw dI bd sz ln sy wt qu co) H := hP
          have hD : va_D A (mw dI bd sz ln sy wt qu co) := hD
          refine lv_iload_n hx hb dX1_begin_23 rfl (lv_at hl 3 rfl) ?_
          refine lv_bipush (v := (nI 10)) hx hb dX1_begin_24 (by decide) ?_
          refine nv_cge (tgt := 70) hx hb dX1_begin_26 (by decide) (by omega) (by omega) (fun c26 => ?_) (fun c26 => ?_)
          · refine lv_bipush (v := ((-2))) hx hb dX1_begin_70 (by decide) ?_
            exact rt_wi hx hb hr hlk dX1_begin_72 hK hS (ln, sy, wt) hP hD (Or.inr (Or.inl ⟨by rw [smF_n (by omega), wgF_n (by omega)]; rfl, fun v hv => hno v (by omega), rfl, rfl, rfl, rfl⟩))
          · refine lv_aload_n hx hb dX1_begin_29 rfl (lv_at hl 0 rfl) ?_
            refine gm F hK hP rfl 0 (by decide) q199 rfl dX1_begin_30 ?_
            refine lv_iload_n hx hb dX1_begin_33 rfl (lv_at hl 3 rfl) ?_
            refine nv_iald (f := ln) (n := 10) hx hb hK hP 1 0 rfl rfl (by omega) (by decide) dX1_begin_34 ?_
            have hbd1 := hln i
            refine nv_zne (tgt := 64) hx hb dX1_begin_35 (by decide) (by omega) (fun c35 => ?_) (fun c35 => ?_)
            · refine lv_iinc (v := nI (i + 1)) (lv' := [(3, .int (nI (i + 1))), (0, .ref (bd 0)), (1, .int (nI j)), (2, .int (nI k))]) hx hb dX1_begin_64 hl (k := 3) rfl (nv_inc _) (by decide) rfl (fun ls hl => ?_)
              refine lv_goto (tgt := 23) hx hb dX1_begin_67 (by decide) ?_
              exact ih23 (i + 1) _ _ _ (by first | omega | (dsimp only; omega)) ⟨hP, hD, hS, lv_sub hl [1, 2, 3, 0] rfl, (by omega), (lt_s hno (by rw [isB_1 (by omega)]; rfl))⟩
            · refine lv_aload_n hx hb dX1_begin_38 rfl (lv_at hl 0 rfl) ?_
              refine gm F hK hP rfl 0 (by decide) q199 rfl dX1_begin_39 ?_
              refine lv_iload_n hx hb dX1_begin_42 rfl (lv_at hl 3 rfl) ?_
              refine lv_iconst (v := (nI 1)) hx hb dX1_begin_43 (by decide) ?_
              refine nv_iast (f := ln) (n := 10) (v := 1) hx hb hK hP hD hS 1 0 rfl rfl (by omega) (by decide) dX1_begin_44 (fun H locs hP hD hS => ?_)
              have hP : va_P D vwCl (mw dI bd sz (upN ln i 1) sy wt qu co) H := hP
              have hD : va_D A (mw dI bd sz (upN ln i 1) sy wt qu co) := hD
              refine lv_aload_n hx hb dX1_begin_45 rfl (lv_at hl 0 rfl) ?_
              refine gm F hK hP rfl 1 (by decide) q200 rfl dX1_begin_46 ?_
              refine lv_bipush (v := (nI 6)) hx hb dX1_begin_49 (by decide) ?_
              refine lv_iload_n hx hb dX1_begin_51 rfl (lv_at hl 3 rfl) ?_
              refine nv_imul hx hb dX1_begin_52 ?_
              refine lv_iload_n hx hb dX1_begin_53 rfl (lv_at hl 1 rfl) ?_
              refine nv_iast (f := sy) (n := 60) (v := j) hx hb hK hP hD hS 2 0 rfl rfl (by omega) (by decide) dX1_begin_54 (fun H locs hP hD hS => ?_)
              have hP : va_P D vwCl (mw dI bd sz (upN ln i 1) (upN sy (6 * i) j) wt qu co) H := hP
              have hD : va_D A (mw dI bd sz (upN ln i 1) (upN sy (6 * i) j) wt qu co) := hD
              refine lv_aload_n hx hb dX1_begin_55 rfl (lv_at hl 0 rfl) ?_
              refine gm F hK hP rfl 2 (by decide) q201 rfl dX1_begin_56 ?_
              refine lv_iload_n hx hb dX1_begin_59 rfl (lv_at hl 3 rfl) ?_
              refine lv_iload_n hx hb dX1_begin_60 rfl (lv_at hl 2 rfl) ?_
              refine nv_iast (f := wt) (n := 10) (v := k) hx hb hK hP hD hS 3 0 rfl rfl (by omega) (by decide) dX1_begin_61 (fun H locs hP hD hS => ?_)
              have hP : va_P D vwCl (mw dI bd sz (upN ln i 1) (upN sy (6 * i) j) (upN wt i k) qu co) H := hP
              have hD : va_D A (mw dI bd sz (upN ln i 1) (upN sy (6 * i) j) (upN wt i k) qu co) := hD
              refine lv_iload_n hx hb dX1_begin_62 rfl (lv_at hl 3 rfl) ?_
              exact rt_wi hx hb hr hlk dX1_begin_63 hK hS (upN ln i 1, upN sy (6 * i) j, upN wt i k) hP hD (Or.inr (Or.inr ⟨j, k, i, by omega, by omega, rfl, rfl, ⟨by omega, by simp [isB_0 c35], hno⟩, rfl, rfl, rfl, rfl⟩))
        · refine lv_iconst (v := ((-1))) hx hb dX1_begin_19 (by decide) ?_
          exact rt_wi hx hb hr hlk dX1_begin_20 hK hS (ln, sy, wt) hP hD (Or.inl ⟨by rw [show wgF y = false from inF_hi (by have := rg_gt (by decide) c16; omega)]; simp, rfl, rfl, rfl, rfl⟩)
set_option maxHeartbeats 4000000 in
/-- extend(w, x) -/
theorem metX1_extend (l : Launch) (D : va_G) (dI : ClassId) (bd : Nat → Nat) (sz : Nat) (ln sy wt qu co : Nat → Nat) (w : Int32) (x : Int32) (hI : mI sz ln wt sy qu) (hco : ∀ k, co k ≤ 100) (hsz : Nat) : Met l yX1_extend (ws_ yX1_extend cX1_extend 3 (some .boolean)) (rmN 1 21) (PW D [(dI, .int)] (mw dI bd sz ln sy wt qu co) [.ref (bd 0), .int w, .int x] hsz) (QI D [(dI, .int)] (fun (r : Int32) (u : (Nat → Nat) × (Nat → Nat)) => exR (isB ln) ln w x r (u.1 = ln ∧ u.2 = sy) (fun j k => u.1 = upN ln j (ln j + 1) ∧ u.2 = upN sy (6 * j + ln j) k)) (fun u : (Nat → Nat) × (Nat → Nat) => (mw dI bd sz u.1 u.2 wt qu co)) (va_A (mw dI bd sz ln sy wt qu co) hsz)) 0 0 (va_A (mw dI bd sz ln sy wt qu co) hsz) := by
  refine en_wi (by decide) (Nat.le_of_ble_eq_true rfl) ?_
  intro p e s m below meth c F hr hlk A hA hK hP hD hS ls hl
  have hx := F.1
  have hb := F.2.1
  have F : CallFix p m c cX1_extend 3 s [.ref (bd 0), .int w, .int x].toArray lw_all RX1 := F
  have hl : lv_has ls 3 [(0, .ref (bd 0)), (1, .int w), (2, .int x)] := hl
  obtain ⟨hs6, hln, hwt, hsy, hqu⟩ := id hI
  refine lv_aload_n hx hb dX1_extend_0 rfl (lv_at hl 0 rfl) ?_
  refine lv_iload_n hx hb dX1_extend_1 rfl (lv_at hl 1 rfl) ?_
  refine nc_ro (n := 1) (q0 := 0) (ci := 1) F (metX1_is l D dI bd sz ln sy wt qu co w hln) (lw_V q227 q229 qs14 q25 q230) ⟨rfl, rfl⟩ (by decide +kernel) ⟨by decide, by decide⟩ hK hP rfl rfl rfl rfl hl rfl (Nat.le_of_ble_eq_true rfl) dX1_extend_2 ⟨by decide, by decide⟩ (fun r2 hr2 => ?_)
  have hr2 : r2 = (nI (Bool.toNat (isF ln w))) := hr2
  subst hr2
  refine nv_beq (tgt := 28) hx hb dX1_extend_5 (by decide) (fun c5 => ?_) (fun c5 => ?_)
  · refine lv_iconst (v := (nI 0)) hx hb dX1_extend_28 (by decide) ?_
    exact rt_wz hx hb hr hlk dX1_extend_29 rfl hK hS (ln, sy) hP hD (Or.inr ⟨fun j k hj hk e1 e2 h => (by rw [e1, isF_n hj, h] at c5; cases c5), rfl, rfl, rfl⟩)
  · refine lv_iload_n hx hb dX1_extend_8 rfl (lv_at hl 2 rfl) ?_
    refine lv_if_lt (tgt := 28) hx hb dX1_extend_9 (by decide) (fun c9 => ?_) (fun c9 => ?_)
    · refine lv_iconst (v := (nI 0)) hx hb dX1_extend_28 (by decide) ?_
      exact rt_wz hx hb hr hlk dX1_extend_29 rfl hK hS (ln, sy) hP hD (Or.inr ⟨fun j k hj hk e1 e2 h => (by rw [e2] at c9; exact absurd c9 (nI_pos (by omega))), rfl, rfl, rfl⟩)
    · refine lv_iload_n hx hb dX1_extend_12 rfl (lv_at hl 2 rfl) ?_
      refine lv_iconst (v := (nI 3)) hx hb dX1_extend_13 (by decide) ?_
      refine lv_icmp_gt (tgt := 28) hx hb dX1_extend_14 (by decide) (fun c14 => ?_) (fun c14 => ?_)
      · refine lv_iconst (v := (nI 0)) hx hb dX1_extend_28 (by decide) ?_
        exact rt_wz hx hb hr hlk dX1_extend_29 rfl hK hS (ln, sy) hP hD (Or.inr ⟨fun j k hj hk e1 e2 h => (by rw [e2] at c14; have := (nI_ltI (by omega) (by omega)).mp c14; omega), rfl, rfl, rfl⟩)
      · obtain ⟨j, hj, rfl, hpj⟩ := inF_ex c5
        obtain ⟨k, hk, rfl⟩ := rg_ng (by decide) c9 c14
        refine lv_aload_n hx hb dX1_extend_17 rfl (lv_at hl 0 rfl) ?_
        refine gm F hK hP rfl 0 (by decide) q199 rfl dX1_extend_18 ?_
        refine lv_iload_n hx hb dX1_extend_21 rfl (lv_at hl 1 rfl) ?_
        refine nv_iald (f := ln) (n := 10) hx hb hK hP 1 0 rfl rfl (by omega) (by decide) dX1_extend_22 ?_
        have hbd1 := hln j
        refine lv_bipush (v := (nI 6)) hx hb dX1_extend_23 (by decide) ?_
        refine nv_clt (tgt := 30) hx hb dX1_extend_25 (by decide) (by omega) (by omega) (fun c25 => ?_) (fun c25 => ?_)
        · refine lv_aload_n hx hb dX1_extend_30 rfl (lv_at hl 0 rfl) ?_
          refine gm F hK hP rfl 1 (by decide) q200 rfl dX1_extend_31 ?_
          refine lv_bipush (v := (nI 6)) hx hb dX1_extend_34 (by decide) ?_
          refine lv_iload_n hx hb dX1_extend_36 rfl (lv_at hl 1 rfl) ?_
          refine nv_imul hx hb dX1_extend_37 ?_
          refine lv_aload_n hx hb dX1_extend_38 rfl (lv_at hl 0 rfl) ?_
          refine gm F hK hP rfl 0 (by decide) q199 rfl dX1_extend_39 ?_
          refine lv_iload_n hx hb dX1_extend_42 rfl (lv_at hl 1 rfl) ?_
          refine nv_iald (f := ln) (n := 10) hx hb hK hP 1 0 rfl rfl (by omega) (by decide) dX1_extend_43 ?_
          have hbd2 := hln j
          refine nv_iadd hx hb dX1_extend_44 ?_
          refine lv_iload_n hx hb dX1_extend_45 rfl (lv_at hl 2 rfl) ?_
          refine nv_iast (f := sy) (n := 60) (v := k) hx hb hK hP hD hS 2 0 rfl rfl (by omega) (by decide) dX1_extend_46 (fun H locs hP hD hS => ?_)
          have hP : va_P D vwCl (mw dI bd sz ln (upN sy ((6 * j) + (ln j)) k) wt qu co) H := hP
          have hD : va_D A (mw dI bd sz ln (upN sy ((6 * j) + (ln j)) k) wt qu co) := hD
          refine lv_aload_n hx hb dX1_extend_47 rfl (lv_at hl 0 rfl) ?_
          refine gm F hK hP rfl 0 (by decide) q199 rfl dX1_extend_48 ?_
          refine lv_iload_n hx hb dX1_extend_51 rfl (lv_at hl 1 rfl) ?_
          refine lv_dup2_11 hx hb dX1_extend_52 rfl rfl ?_
          refine nv_iald (f := ln) (n := 10) hx hb hK hP 1 0 rfl rfl (by omega) (by decide) dX1_extend_53 ?_
          have hbd3 := hln j
          refine lv_iconst (v := (nI 1)) hx hb dX1_extend_54 (by decide) ?_
          refine nv_iadd hx hb dX1_extend_55 ?_
          refine nv_iast (f := ln) (n := 10) (v := (ln j) + 1) hx hb hK hP hD hS 1 0 rfl rfl (by omega) (by decide) dX1_extend_56 (fun H locs hP hD hS => ?_)
          have hP : va_P D vwCl (mw dI bd sz (upN ln j ((ln j) + 1)) (upN sy ((6 * j) + (ln j)) k) wt qu co) H := hP
          have hD : va_D A (mw dI bd sz (upN ln j ((ln j) + 1)) (upN sy ((6 * j) + (ln j)) k) wt qu co) := hD
          refine lv_iconst (v := (nI 1)) hx hb dX1_extend_57 (by decide) ?_
          exact rt_wz hx hb hr hlk dX1_extend_58 rfl hK hS (upN ln j ((ln j) + 1), upN sy ((6 * j) + (ln j)) k) hP hD (Or.inl ⟨j, k, hj, by omega, rfl, rfl, hpj, c25, rfl, rfl, rfl⟩)
        · refine lv_iconst (v := (nI 0)) hx hb dX1_extend_28 (by decide) ?_
          exact rt_wz hx hb hr hlk dX1_extend_29 rfl hK hS (ln, sy) hP hD (Or.inr ⟨fun j' k' hj' hk' e1 e2 h => (by rw [← nI_in10 hj hj' e1]; exact c25), rfl, rfl, rfl⟩)
set_option maxHeartbeats 4000000 in
/-- remove(w) -/
theorem metX1_remove (l : Launch) (D : va_G) (dI : ClassId) (bd : Nat → Nat) (sz : Nat) (ln sy wt qu co : Nat → Nat) (w : Int32) (hI : mI sz ln wt sy qu) (hco : ∀ k, co k ≤ 100) (hsz : Nat) : Met l yX1_remove (ws_ yX1_remove cX1_remove 2 (some .boolean)) (rmN 1 21) (PW D [(dI, .int)] (mw dI bd sz ln sy wt qu co) [.ref (bd 0), .int w] hsz) (QI D [(dI, .int)] (fun (r : Int32) (u : (Nat → Nat)) => rmR (isB ln) w r (u = ln) (fun j => u = upN ln j 0)) (fun u : (Nat → Nat) => (mw dI bd sz u sy wt qu co)) (va_A (mw dI bd sz ln sy wt qu co) hsz)) 0 0 (va_A (mw dI bd sz ln sy wt qu co) hsz) := by
  refine en_wi (by decide) (Nat.le_of_ble_eq_true rfl) ?_
  intro p e s m below meth c F hr hlk A hA hK hP hD hS ls hl
  have hx := F.1
  have hb := F.2.1
  have F : CallFix p m c cX1_remove 2 s [.ref (bd 0), .int w].toArray lw_all RX1 := F
  have hl : lv_has ls 2 [(0, .ref (bd 0)), (1, .int w)] := hl
  obtain ⟨hs6, hln, hwt, hsy, hqu⟩ := id hI
  refine lv_aload_n hx hb dX1_remove_0 rfl (lv_at hl 0 rfl) ?_
  refine lv_iload_n hx hb dX1_remove_1 rfl (lv_at hl 1 rfl) ?_
  refine nc_ro (n := 1) (q0 := 0) (ci := 1) F (metX1_is l D dI bd sz ln sy wt qu co w hln) (lw_V q227 q229 qs14 q25 q230) ⟨rfl, rfl⟩ (by decide +kernel) ⟨by decide, by decide⟩ hK hP rfl rfl rfl rfl hl rfl (Nat.le_of_ble_eq_true rfl) dX1_remove_2 ⟨by decide, by decide⟩ (fun r2 hr2 => ?_)
  have hr2 : r2 = (nI (Bool.toNat (isF ln w))) := hr2
  subst hr2
  refine nv_bne (tgt := 10) hx hb dX1_remove_5 (by decide) (fun c5 => ?_) (fun c5 => ?_)
  · obtain ⟨j, hj, rfl, hpj⟩ := inF_ex c5
    refine lv_aload_n hx hb dX1_remove_10 rfl (lv_at hl 0 rfl) ?_
    refine gm F hK hP rfl 0 (by decide) q199 rfl dX1_remove_11 ?_
    refine lv_iload_n hx hb dX1_remove_14 rfl (lv_at hl 1 rfl) ?_
    refine lv_iconst (v := (nI 0)) hx hb dX1_remove_15 (by decide) ?_
    refine nv_iast (f := ln) (n := 10) (v := 0) hx hb hK hP hD hS 1 0 rfl rfl (by omega) (by decide) dX1_remove_16 (fun H locs hP hD hS => ?_)
    have hP : va_P D vwCl (mw dI bd sz (upN ln j 0) sy wt qu co) H := hP
    have hD : va_D A (mw dI bd sz (upN ln j 0) sy wt qu co) := hD
    refine lv_iconst (v := (nI 1)) hx hb dX1_remove_17 (by decide) ?_
    exact rt_wz hx hb hr hlk dX1_remove_18 rfl hK hS (upN ln j 0) hP hD (Or.inl ⟨j, hj, rfl, hpj, rfl, rfl⟩)
  · refine lv_iconst (v := (nI 0)) hx hb dX1_remove_8 (by decide) ?_
    exact rt_wz hx hb hr hlk dX1_remove_9 rfl hK hS ln hP hD (Or.inr ⟨fun j hj e1 => (by rw [e1, isF_n hj] at c5; exact c5), rfl, rfl⟩)
set_option maxHeartbeats 4000000 in
/-- weigh(w, y) -/
theorem metX1_weigh (l : Launch) (D : va_G) (dI : ClassId) (bd : Nat → Nat) (sz : Nat) (ln sy wt qu co : Nat → Nat) (w : Int32) (y : Int32) (hI : mI sz ln wt sy qu) (hco : ∀ k, co k ≤ 100) (hsz : Nat) : Met l yX1_weigh (ws_ yX1_weigh cX1_weigh 3 (some .boolean)) (rmN 1 21) (PW D [(dI, .int)] (mw dI bd sz ln sy wt qu co) [.ref (bd 0), .int w, .int y] hsz) (QI D [(dI, .int)] (fun (r : Int32) (u : (Nat → Nat)) => wgR (isB ln) w y r (u = wt) (fun j k => u = upN wt j k)) (fun u : (Nat → Nat) => (mw dI bd sz ln sy u qu co)) (va_A (mw dI bd sz ln sy wt qu co) hsz)) 0 0 (va_A (mw dI bd sz ln sy wt qu co) hsz) := by
  refine en_wi (by decide) (Nat.le_of_ble_eq_true rfl) ?_
  intro p e s m below meth c F hr hlk A hA hK hP hD hS ls hl
  have hx := F.1
  have hb := F.2.1
  have F : CallFix p m c cX1_weigh 3 s [.ref (bd 0), .int w, .int y].toArray lw_all RX1 := F
  have hl : lv_has ls 3 [(0, .ref (bd 0)), (1, .int w), (2, .int y)] := hl
  obtain ⟨hs6, hln, hwt, hsy, hqu⟩ := id hI
  refine lv_aload_n hx hb dX1_weigh_0 rfl (lv_at hl 0 rfl) ?_
  refine lv_iload_n hx hb dX1_weigh_1 rfl (lv_at hl 1 rfl) ?_
  refine nc_ro (n := 1) (q0 := 0) (ci := 1) F (metX1_is l D dI bd sz ln sy wt qu co w hln) (lw_V q227 q229 qs14 q25 q230) ⟨rfl, rfl⟩ (by decide +kernel) ⟨by decide, by decide⟩ hK hP rfl rfl rfl rfl hl rfl (Nat.le_of_ble_eq_true rfl) dX1_weigh_2 ⟨by decide, by decide⟩ (fun r2 hr2 => ?_)
  have hr2 : r2 = (nI (Bool.toNat (isF ln w))) := hr2
  subst hr2
  refine nv_beq (tgt := 18) hx hb dX1_weigh_5 (by decide) (fun c5 => ?_) (fun c5 => ?_)
  · refine lv_iconst (v := (nI 0)) hx hb dX1_weigh_18 (by decide) ?_
    exact rt_wz hx hb hr hlk dX1_weigh_19 rfl hK hS wt hP hD (Or.inr ⟨fun j k hj hk e1 e2 => (by rw [e1, isF_n hj] at c5; exact c5), rfl, rfl⟩)
  · refine lv_iload_n hx hb dX1_weigh_8 rfl (lv_at hl 2 rfl) ?_
    refine lv_if_lt (tgt := 18) hx hb dX1_weigh_9 (by decide) (fun c9 => ?_) (fun c9 => ?_)
    · refine lv_iconst (v := (nI 0)) hx hb dX1_weigh_18 (by decide) ?_
      exact rt_wz hx hb hr hlk dX1_weigh_19 rfl hK hS wt hP hD (Or.inr ⟨fun j k hj hk e1 e2 => (by rw [e2] at c9; exact absurd c9 (nI_pos (by omega))), rfl, rfl⟩)
    · refine lv_iload_n hx hb dX1_weigh_12 rfl (lv_at hl 2 rfl) ?_
      refine lv_bipush (v := (nI 9)) hx hb dX1_weigh_13 (by decide) ?_
      refine lv_icmp_le (tgt := 20) hx hb dX1_weigh_15 (by decide) (fun c15 => ?_) (fun c15 => ?_)
      · obtain ⟨j, hj, rfl, hpj⟩ := inF_ex c5
        obtain ⟨k, hk, rfl⟩ := rg_le (by decide) c9 c15
        refine lv_aload_n hx hb dX1_weigh_20 rfl (lv_at hl 0 rfl) ?_
        refine gm F hK hP rfl 2 (by decide) q201 rfl dX1_weigh_21 ?_
        refine lv_iload_n hx hb dX1_weigh_24 rfl (lv_at hl 1 rfl) ?_
        refine lv_iload_n hx hb dX1_weigh_25 rfl (lv_at hl 2 rfl) ?_
        refine nv_iast (f := wt) (n := 10) (v := k) hx hb hK hP hD hS 3 0 rfl rfl (by omega) (by decide) dX1_weigh_26 (fun H locs hP hD hS => ?_)
        have hP : va_P D vwCl (mw dI bd sz ln sy (upN wt j k) qu co) H := hP
        have hD : va_D A (mw dI bd sz ln sy (upN wt j k) qu co) := hD
        refine lv_iconst (v := (nI 1)) hx hb dX1_weigh_27 (by decide) ?_
        exact rt_wz hx hb hr hlk dX1_weigh_28 rfl hK hS (upN wt j k) hP hD (Or.inl ⟨j, k, hj, by omega, rfl, rfl, hpj, rfl, rfl⟩)
      · refine lv_iconst (v := (nI 0)) hx hb dX1_weigh_18 (by decide) ?_
        exact rt_wz hx hb hr hlk dX1_weigh_19 rfl hK hS wt hP hD (Or.inr ⟨fun j k hj hk e1 e2 => (by rw [e2] at c15; exact absurd ((nI_leI (by omega) (by omega)).mpr (by omega)) c15), rfl, rfl⟩)
set_option maxHeartbeats 4000000 in
/-- type(x) -/
theorem metX1_type (l : Launch) (D : va_G) (dI : ClassId) (bd : Nat → Nat) (sz : Nat) (ln sy wt qu co : Nat → Nat) (x : Int32) (hI : mI sz ln wt sy qu) (hco : ∀ k, co k ≤ 100) (hsz : Nat) : Met l yX1_type (ws_ yX1_type cX1_type 2 (some .int)) (rmN 6 139) (PW D [(dI, .int)] (mw dI bd sz ln sy wt qu co) [.ref (bd 0), .int x] hsz) (QI D [(dI, .int)] (fun (r : Int32) (u : Nat × (Nat → Nat) × (Nat → Nat)) => tyR (cnM ln sy) sz qu x u.1 u.2.1 r ∧ ∀ q9, u.2.2 q9 ≤ 100) (fun u : Nat × (Nat → Nat) × (Nat → Nat) => (mw dI bd u.1 ln sy wt u.2.1 u.2.2)) (va_A (mw dI bd sz ln sy wt qu co) hsz)) 0 0 (va_A (mw dI bd sz ln sy wt qu co) hsz) := by
  refine en_wi (by decide) (Nat.le_of_ble_eq_true rfl) ?_
  intro p e s m below meth c F hr hlk A hA hK hP hD hS ls hl
  have hx := F.1
  have hb := F.2.1
  have F : CallFix p m c cX1_type 2 s [.ref (bd 0), .int x].toArray lw_all RX1 := F
  have hl : lv_has ls 2 [(0, .ref (bd 0)), (1, .int x)] := hl
  obtain ⟨hs6, hln, hwt, hsy, hqu⟩ := id hI
  refine lv_iload_n hx hb dX1_type_0 rfl (lv_at hl 1 rfl) ?_
  refine lv_if_lt (tgt := 9) hx hb dX1_type_1 (by decide) (fun c1 => ?_) (fun c1 => ?_)
  · refine lv_iconst (v := ((-1))) hx hb dX1_type_9 (by decide) ?_
    exact rt_wi hx hb hr hlk dX1_type_10 hK hS (sz, qu, co) hP hD ⟨Or.inl ⟨inF_lo (rg_neg c1), rfl, rfl, rfl⟩, hco⟩
  · refine lv_iload_n hx hb dX1_type_4 rfl (lv_at hl 1 rfl) ?_
    refine lv_iconst (v := (nI 3)) hx hb dX1_type_5 (by decide) ?_
    refine lv_icmp_le (tgt := 11) hx hb dX1_type_6 (by decide) (fun c6 => ?_) (fun c6 => ?_)
    · obtain ⟨j, hj, rfl⟩ := rg_le (by decide) c1 c6
      refine lv_aload_n hx hb dX1_type_11 rfl (lv_at hl 0 rfl) ?_
      refine gm F hK hP rfl 3 (by decide) q202 rfl dX1_type_12 ?_
      refine lv_bipush (v := (nI 6)) hx hb dX1_type_15 (by decide) ?_
      refine nv_clt (tgt := 23) hx hb dX1_type_17 (by decide) (by omega) (by omega) (fun c17 => ?_) (fun c17 => ?_)
      · refine lv_aload_n hx hb dX1_type_23 rfl (lv_at hl 0 rfl) ?_
        refine gm F hK hP rfl 4 (by decide) q203 rfl dX1_type_24 ?_
        refine lv_aload_n hx hb dX1_type_27 rfl (lv_at hl 0 rfl) ?_
        refine gm F hK hP rfl 3 (by decide) q202 rfl dX1_type_28 ?_
        refine lv_iload_n hx hb dX1_type_31 rfl (lv_at hl 1 rfl) ?_
        refine nv_iast (f := qu) (n := 7) (v := j) hx hb hK hP hD hS 4 0 rfl rfl (by omega) (by decide) dX1_type_32 (fun H locs hP hD hS => ?_)
        have hP : va_P D vwCl (mw dI bd sz ln sy wt (upN qu sz j) co) H := hP
        have hD : va_D A (mw dI bd sz ln sy wt (upN qu sz j) co) := hD
        refine lv_aload_n hx hb dX1_type_33 rfl (lv_at hl 0 rfl) ?_
        refine lv_dup hx hb dX1_type_34 rfl ?_
        refine gm F hK hP rfl 3 (by decide) q202 rfl dX1_type_35 ?_
        refine lv_iconst (v := (nI 1)) hx hb dX1_type_38 (by decide) ?_
        refine nv_iadd hx hb dX1_type_39 ?_
        refine pm (ty := .int) F hK hP hD hS rfl 3 (by decide) q202 rfl (by decide +kernel) rfl rfl (Nat.le_of_ble_eq_true rfl) dX1_type_40 (fun H locs hP hD hS => ?_)
        have hP : va_P D vwCl (mw dI bd (sz + 1) ln sy wt (upN qu sz j) co) H := hP
        have hD : va_D A (mw dI bd (sz + 1) ln sy wt (upN qu sz j) co) := hD
        refine lv_aload_n hx hb dX1_type_43 rfl (lv_at hl 0 rfl) ?_
        refine nc_wi (n := 0) (q0 := 0) (ci := 1) (wr := []) F (metX1_count l D dI bd (sz + 1) ln sy wt (upN qu sz j) co  ⟨by omega, hln, hwt, hsy, upN_lt hqu (by omega)⟩ hco _) (lw_V q247 q249 qs15 q25 q250) ⟨rfl, rfl⟩ (by decide +kernel) ⟨by decide, by decide⟩ hK hP hD hS hA [0, 1, 2, 3, 4, 5] [] rfl rfl rfl rfl rfl (by decide) rfl rfl rfl rfl hl rfl (Nat.le_of_ble_eq_true rfl) dX1_type_44 ⟨by decide, by decide⟩ (fun r44 u H locs hr44o hP hD hS => ?_)
        obtain ⟨co_1, rfl⟩ : ∃ z, z = u := ⟨_, rfl⟩
        have hP : va_P D vwCl (mw dI bd (sz + 1) ln sy wt (upN qu sz j) co_1) H := hP
        have hD : va_D A (mw dI bd (sz + 1) ln sy wt (upN qu sz j) co_1) := hD
        have hr44 : r44 = (nI (cntOf (fdM (sz + 1) ln sy (upN qu sz j)) 10)) ∧ (∀ q9, co_1 q9 ≤ 100) := hr44o
        obtain ⟨hr44e, hr44⟩ := hr44
        subst hr44e
        exact rt_wi hx hb hr hlk dX1_type_47 hK hS (sz + 1, upN qu sz j, co_1) hP hD ⟨Or.inr (Or.inr ⟨j, by omega, rfl, c17, rfl, rfl, rfl⟩), hr44⟩
      · refine lv_bipush (v := ((-2))) hx hb dX1_type_20 (by decide) ?_
        exact rt_wi hx hb hr hlk dX1_type_22 hK hS (sz, qu, co) hP hD ⟨Or.inr (Or.inl ⟨smF_n (by omega), c17, rfl, rfl, rfl⟩), hco⟩
    · refine lv_iconst (v := ((-1))) hx hb dX1_type_9 (by decide) ?_
      exact rt_wi hx hb hr hlk dX1_type_10 hK hS (sz, qu, co) hP hD ⟨Or.inl ⟨inF_hi (by have := rg_gt (by decide) c6; omega), rfl, rfl, rfl⟩, hco⟩
set_option maxHeartbeats 4000000 in
/-- rub() -/
theorem metX1_rub (l : Launch) (D : va_G) (dI : ClassId) (bd : Nat → Nat) (sz : Nat) (ln sy wt qu co : Nat → Nat)  (hI : mI sz ln wt sy qu) (hco : ∀ k, co k ≤ 100) (hsz : Nat) : Met l yX1_rub (ws_ yX1_rub cX1_rub 1 (some .int)) (rmN 0 0) (PW D [(dI, .int)] (mw dI bd sz ln sy wt qu co) [.ref (bd 0)] hsz) (QI D [(dI, .int)] (fun (r : Int32) (u : Nat) => rbR sz qu u r) (fun u : Nat => (mw dI bd u ln sy wt qu co)) (va_A (mw dI bd sz ln sy wt qu co) hsz)) 0 0 (va_A (mw dI bd sz ln sy wt qu co) hsz) := by
  refine en_wi (by decide) (Nat.le_of_ble_eq_true rfl) ?_
  intro p e s m below meth c F hr hlk A hA hK hP hD hS ls hl
  have hx := F.1
  have hb := F.2.1
  have F : CallFix p m c cX1_rub 1 s [.ref (bd 0)].toArray lw_all RX1 := F
  have hl : lv_has ls 1 [(0, .ref (bd 0))] := hl
  obtain ⟨hs6, hln, hwt, hsy, hqu⟩ := id hI
  refine lv_aload_n hx hb dX1_rub_0 rfl (lv_at hl 0 rfl) ?_
  refine gm F hK hP rfl 3 (by decide) q202 rfl dX1_rub_1 ?_
  refine nv_zne (tgt := 9) hx hb dX1_rub_4 (by decide) (by omega) (fun c4 => ?_) (fun c4 => ?_)
  · refine lv_aload_n hx hb dX1_rub_9 rfl (lv_at hl 0 rfl) ?_
    refine lv_dup hx hb dX1_rub_10 rfl ?_
    refine gm F hK hP rfl 3 (by decide) q202 rfl dX1_rub_11 ?_
    refine lv_iconst (v := (nI 1)) hx hb dX1_rub_14 (by decide) ?_
    refine nv_isub hx hb (by omega) dX1_rub_15 ?_
    refine pm (ty := .int) F hK hP hD hS rfl 3 (by decide) q202 rfl (by decide +kernel) rfl rfl (Nat.le_of_ble_eq_true rfl) dX1_rub_16 (fun H locs hP hD hS => ?_)
    have hP : va_P D vwCl (mw dI bd (sz - 1) ln sy wt qu co) H := hP
    have hD : va_D A (mw dI bd (sz - 1) ln sy wt qu co) := hD
    refine lv_aload_n hx hb dX1_rub_19 rfl (lv_at hl 0 rfl) ?_
    refine gm F hK hP rfl 4 (by decide) q203 rfl dX1_rub_20 ?_
    refine lv_aload_n hx hb dX1_rub_23 rfl (lv_at hl 0 rfl) ?_
    refine gm F hK hP rfl 3 (by decide) q202 rfl dX1_rub_24 ?_
    refine nv_iald (f := qu) (n := 7) hx hb hK hP 4 0 rfl rfl (by omega) (by decide) dX1_rub_27 ?_
    have hbd1 := hqu (sz - 1)
    exact rt_wi hx hb hr hlk dX1_rub_28 hK hS (sz - 1) hP hD (Or.inr ⟨by omega, rfl, rfl⟩)
  · refine lv_iconst (v := ((-1))) hx hb dX1_rub_7 (by decide) ?_
    exact rt_wi hx hb hr hlk dX1_rub_8 hK hS sz hP hD (Or.inl ⟨c4, rfl, c4⟩)
set_option maxHeartbeats 4000000 in
/-- hints() -/
theorem metX1_hints (l : Launch) (D : va_G) (dI : ClassId) (bd : Nat → Nat) (sz : Nat) (ln sy wt qu co : Nat → Nat)  (hI : mI sz ln wt sy qu) (hco : ∀ k, co k ≤ 100) (hsz : Nat) : Met l yX1_hints (ws_ yX1_hints cX1_hints 3 (some .int)) (rmN 7 160) (PW D [(dI, .int)] (mw dI bd sz ln sy wt qu co) [.ref (bd 0)] hsz) (QI D [(dI, .int)] (fun (r : Int32) (u : Nat × (Nat → Nat) × (Nat → Nat)) => r = (nI (hnF (fun q => decide (setOf (fdM (sz + 1) ln sy q) 10 ≠ 0)) qu sz)) ∧ u.1 = sz ∧ u.2.1 = hnQ qu sz ∧ ∀ q9, u.2.2 q9 ≤ 100) (fun u : Nat × (Nat → Nat) × (Nat → Nat) => (mw dI bd u.1 ln sy wt u.2.1 u.2.2)) (va_A (mw dI bd sz ln sy wt qu co) hsz)) 0 0 (va_A (mw dI bd sz ln sy wt qu co) hsz) := by
  refine en_wi (by decide) (Nat.le_of_ble_eq_true rfl) ?_
  intro p e s m below meth c F hr hlk A hA hK hP hD hS ls hl
  have hx := F.1
  have hb := F.2.1
  have F : CallFix p m c cX1_hints 3 s [.ref (bd 0)].toArray lw_all RX1 := F
  have hl : lv_has ls 3 [(0, .ref (bd 0))] := hl
  obtain ⟨hs6, hln, hwt, hsy, hqu⟩ := id hI
  refine lv_iconst (v := (nI 0)) hx hb dX1_hints_0 (by decide) ?_
  refine lv_istore_n (lv' := [(1, .int (nI 0)), (0, .ref (bd 0))]) hx hb dX1_hints_1 rfl hl (by decide) rfl (fun ls hl => ?_)
  refine lv_iconst (v := (nI 0)) hx hb dX1_hints_2 (by decide) ?_
  refine lv_istore_n (lv' := [(2, .int (nI 0)), (1, .int (nI 0)), (0, .ref (bd 0))]) hx hb dX1_hints_3 rfl hl (by decide) rfl (fun ls hl => ?_)
  refine lp_w5 (I := fun (i : Nat) (g : Nat) (z : Nat) (q : Nat → Nat) (d : Nat → Nat) H locs ls => va_P D vwCl (mw dI bd z ln sy wt q d) H ∧ va_D A (mw dI bd z ln sy wt q d) ∧ va_S A s.heap H locs ∧ lv_has ls 3 [(0, .ref (bd 0)), (1, .int (nI g)), (2, .int (nI i))] ∧ (i ≤ 4) ∧ (z = sz) ∧ (q = hq qu sz i) ∧ (g = setOf (fun s => (fun q => decide (setOf (fdM (sz + 1) ln sy q) 10 ≠ 0)) (hq qu sz (s + 1))) i) ∧ (6 ≤ sz → i = 0) ∧ (∀ k, d k ≤ 100)) (μ := fun (i : Nat) (g : Nat) (z : Nat) (q : Nat → Nat) (d : Nat → Nat) => 4 - i) ?_ 0 0 sz qu co _ _ _ ⟨hP, hD, hS, lv_sub hl [2, 1, 0] rfl, (Nat.zero_le _), rfl, rfl, rfl, (fun _ => rfl), hco⟩
  intro i g z q d H locs ls hI0 ih4
  obtain ⟨hP, hD, hS, hl, hi, hz, hq0, hg, h6, hd⟩ := hI0
  have hl : lv_has ls 3 [(0, .ref (bd 0)), (1, .int (nI g)), (2, .int (nI i))] := hl
  have hP : va_P D vwCl (mw dI bd z ln sy wt q d) H := hP
  have hD : va_D A (mw dI bd z ln sy wt q d) := hD
  have hqq : ∀ j, q j < 4 := by rw [hq0]; exact hq_lt hqu i hi
  refine lv_iload_n hx hb dX1_hints_4 rfl (lv_at hl 2 rfl) ?_
  refine lv_iconst (v := (nI 4)) hx hb dX1_hints_5 (by decide) ?_
  refine nv_cge (tgt := 52) hx hb dX1_hints_6 (by decide) (by omega) (by omega) (fun c6 => ?_) (fun c6 => ?_)
  · refine lv_iload_n hx hb dX1_hints_52 rfl (lv_at hl 1 rfl) ?_
    exact rt_wi hx hb hr hlk dX1_hints_53 hK hS (z, q, d) hP hD ⟨congrArg nI (hn_t h6 (by omega) hg), hz, hn_tq h6 (by omega) hq0, hd⟩
  · refine lv_aload_n hx hb dX1_hints_9 rfl (lv_at hl 0 rfl) ?_
    refine gm F hK hP rfl 3 (by decide) q202 rfl dX1_hints_10 ?_
    refine lv_bipush (v := (nI 6)) hx hb dX1_hints_13 (by decide) ?_
    refine nv_cge (tgt := 52) hx hb dX1_hints_15 (by decide) (by omega) (by omega) (fun c15 => ?_) (fun c15 => ?_)
    · refine lv_iload_n hx hb dX1_hints_52 rfl (lv_at hl 1 rfl) ?_
      exact rt_wi hx hb hr hlk dX1_hints_53 hK hS (z, q, d) hP hD ⟨congrArg nI (hn_f h6 (by omega) hg), hz, hn_fq h6 (by omega) hq0, hd⟩
    · refine lv_aload_n hx hb dX1_hints_18 rfl (lv_at hl 0 rfl) ?_
      refine lv_iload_n hx hb dX1_hints_19 rfl (lv_at hl 2 rfl) ?_
      refine nc_wi (n := 1) (q0 := 0) (ci := 1) (wr := []) F (metX1_type l D dI bd z ln sy wt q d (nI i) ⟨by omega, hln, hwt, hsy, hqq⟩ hd _) (lw_V q305 q244 q245 q25 q246) ⟨rfl, rfl⟩ (by decide +kernel) ⟨by decide, by decide⟩ hK hP hD hS hA [0, 1, 2, 3, 4, 5] [] rfl rfl rfl rfl rfl (by decide) rfl rfl rfl rfl hl rfl (Nat.le_of_ble_eq_true rfl) dX1_hints_20 ⟨by decide, by decide⟩ (fun r20 u H locs hr20o hP hD hS => ?_)
      obtain ⟨sz_1, qu_1, co_1⟩ := u
      have hP : va_P D vwCl (mw dI bd sz_1 ln sy wt qu_1 co_1) H := hP
      have hD : va_D A (mw dI bd sz_1 ln sy wt qu_1 co_1) := hD
      have hr20 : tyR (cnM ln sy) z q ((nI i)) sz_1 qu_1 r20 ∧ ∀ q9, co_1 q9 ≤ 100 := hr20o
      obtain ⟨hty, hco1⟩ := hr20
      obtain ⟨es, eq, er⟩ := ty_ok (by omega) c15 hty
      have hI2 : mI sz_1 ln wt sy qu_1 := ⟨by omega, hln, hwt, hsy, by rw [eq]; exact upN_lt hqq (by omega)⟩
      have hq2 : qu_1 = hq qu sz (i + 1) := by rw [eq, hz, hq0]; rfl
      have hc1 : setOf (fdM sz_1 ln sy qu_1) 10 = setOf (fdM (sz + 1) ln sy (hq qu sz (i + 1))) 10 := by rw [es, hz, hq2]
      refine lv_pop hx hb dX1_hints_23 rfl ?_
      refine lv_aload_n hx hb dX1_hints_24 rfl (lv_at hl 0 rfl) ?_
      refine nc_wi (n := 0) (q0 := 0) (ci := 1) (wr := []) F (metX1_found l D dI bd sz_1 ln sy wt qu_1 co_1  hI2 hco1 _) (lw_V q251 q252 q253 q25 q254) ⟨rfl, rfl⟩ (by decide +kernel) ⟨by decide, by decide⟩ hK hP hD hS hA [0, 1, 2, 3, 4, 5] [] rfl rfl rfl rfl rfl (by decide) rfl rfl rfl rfl hl rfl (Nat.le_of_ble_eq_true rfl) dX1_hints_25 ⟨by decide, by decide⟩ (fun r25 u H locs hr25o hP hD hS => ?_)
      obtain ⟨co_2, rfl⟩ : ∃ z, z = u := ⟨_, rfl⟩
      have hP : va_P D vwCl (mw dI bd sz_1 ln sy wt qu_1 co_2) H := hP
      have hD : va_D A (mw dI bd sz_1 ln sy wt qu_1 co_2) := hD
      have hr25 : r25 = (nI (setOf (fdM sz_1 ln sy qu_1) 10)) ∧ (∀ q9, co_2 q9 ≤ 100) := hr25o
      obtain ⟨hr25e, hr25⟩ := hr25
      subst hr25e
      refine nv_zeq (tgt := 39) hx hb dX1_hints_28 (by decide) (set_lt31 _) (fun c28 => ?_) (fun c28 => ?_)
      · refine lv_iload_n hx hb dX1_hints_39 rfl (lv_at hl 1 rfl) ?_
        refine lv_istore_n (lv' := [(1, .int (nI g)), (0, .ref (bd 0)), (2, .int (nI i))]) hx hb dX1_hints_40 rfl hl (by decide) rfl (fun ls hl => ?_)
        refine lv_aload_n hx hb dX1_hints_41 rfl (lv_at hl 1 rfl) ?_
        refine nc_wi (n := 0) (q0 := 0) (ci := 1) (wr := []) F (metX1_rub l D dI bd sz_1 ln sy wt qu_1 co_2  hI2 hr25 _) (lw_V q306 q272 q273 q25 q274) ⟨rfl, rfl⟩ (by decide +kernel) ⟨by decide, by decide⟩ hK hP hD hS hA [0, 1, 2, 3, 4, 5] [] rfl rfl rfl rfl rfl (by decide) rfl rfl rfl rfl hl rfl (Nat.le_of_ble_eq_true rfl) dX1_hints_42 ⟨by decide, by decide⟩ (fun r42 u H locs hr42o hP hD hS => ?_)
        obtain ⟨sz_3, rfl⟩ : ∃ z, z = u := ⟨_, rfl⟩
        have hP : va_P D vwCl (mw dI bd sz_3 ln sy wt qu_1 co_2) H := hP
        have hD : va_D A (mw dI bd sz_3 ln sy wt qu_1 co_2) := hD
        have hr42 : rbR sz_1 qu_1 sz_3 r42 := hr42o
        refine lv_pop hx hb dX1_hints_45 rfl ?_
        refine lv_iinc (v := nI (i + 1)) (lv' := [(2, .int (nI (i + 1))), (1, .int (nI g)), (0, .ref (bd 0))]) hx hb dX1_hints_46 hl (k := 2) rfl (nv_inc _) (by decide) rfl (fun ls hl => ?_)
        refine lv_goto (tgt := 4) hx hb dX1_hints_49 (by decide) ?_
        exact ih4 (i + 1) g sz_3 qu_1 co_2 _ _ _ (by first | omega | (dsimp only; omega)) ⟨hP, hD, hS, lv_sub hl [2, 1, 0] rfl, (by omega), (by rw [rb_ok (by omega) hr42]; omega), hq2, (by rw [hg]; exact (setOf_f (decide_eq_false (by rw [hc1] at c28; omega))).symm), (by omega), hr25⟩
      · refine lv_iload_n hx hb dX1_hints_31 rfl (lv_at hl 1 rfl) ?_
        refine lv_iconst (v := (nI 1)) hx hb dX1_hints_32 (by decide) ?_
        refine lv_iload_n hx hb dX1_hints_33 rfl (lv_at hl 2 rfl) ?_
        refine nv_ishl hx hb (by omega) dX1_hints_34 ?_
        refine nv_ior hx hb dX1_hints_35 ?_
        refine lv_goto (tgt := 40) hx hb dX1_hints_36 (by decide) ?_
        refine lv_istore_n (lv' := [(1, .int (nI (g ||| (1 <<< i)))), (0, .ref (bd 0)), (2, .int (nI i))]) hx hb dX1_hints_40 rfl hl (by decide) rfl (fun ls hl => ?_)
        refine lv_aload_n hx hb dX1_hints_41 rfl (lv_at hl 1 rfl) ?_
        refine nc_wi (n := 0) (q0 := 0) (ci := 1) (wr := []) F (metX1_rub l D dI bd sz_1 ln sy wt qu_1 co_2  hI2 hr25 _) (lw_V q306 q272 q273 q25 q274) ⟨rfl, rfl⟩ (by decide +kernel) ⟨by decide, by decide⟩ hK hP hD hS hA [0, 1, 2, 3, 4, 5] [] rfl rfl rfl rfl rfl (by decide) rfl rfl rfl rfl hl rfl (Nat.le_of_ble_eq_true rfl) dX1_hints_42 ⟨by decide, by decide⟩ (fun r42 u H locs hr42o hP hD hS => ?_)
        obtain ⟨sz_4, rfl⟩ : ∃ z, z = u := ⟨_, rfl⟩
        have hP : va_P D vwCl (mw dI bd sz_4 ln sy wt qu_1 co_2) H := hP
        have hD : va_D A (mw dI bd sz_4 ln sy wt qu_1 co_2) := hD
        have hr42 : rbR sz_1 qu_1 sz_4 r42 := hr42o
        refine lv_pop hx hb dX1_hints_45 rfl ?_
        refine lv_iinc (v := nI (i + 1)) (lv' := [(2, .int (nI (i + 1))), (1, .int (nI (g ||| (1 <<< i)))), (0, .ref (bd 0))]) hx hb dX1_hints_46 hl (k := 2) rfl (nv_inc _) (by decide) rfl (fun ls hl => ?_)
        refine lv_goto (tgt := 4) hx hb dX1_hints_49 (by decide) ?_
        exact ih4 (i + 1) (g ||| (1 <<< i)) sz_4 qu_1 co_2 _ _ _ (by first | omega | (dsimp only; omega)) ⟨hP, hD, hS, lv_sub hl [2, 1, 0] rfl, (by omega), (by rw [rb_ok (by omega) hr42]; omega), hq2, (by rw [hg]; exact (setOf_t (decide_eq_true (by rw [hc1] at c28; exact c28))).symm), (by omega), hr25⟩
set_option maxHeartbeats 4000000 in
/-- common() -/
theorem metX1_common (l : Launch) (D : va_G) (dI : ClassId) (bd : Nat → Nat) (sz : Nat) (ln sy wt qu co : Nat → Nat)  (hI : mI sz ln wt sy qu) (hco : ∀ k, co k ≤ 100) (hsz : Nat) : Met l yX1_common (ws_ yX1_common cX1_common 6 (some .int)) (rmN 5 116) (PW D [(dI, .int)] (mw dI bd sz ln sy wt qu co) [.ref (bd 0)] hsz) (QI D [(dI, .int)] (fun (r : Int32) (u : (Nat → Nat)) => (∃ n, r = nI n ∧ cmR 10 (fdM sz ln sy qu) ln sy n) ∧ ∀ q9, u q9 ≤ 100) (fun u : (Nat → Nat) => (mw dI bd sz ln sy wt qu u)) (va_A (mw dI bd sz ln sy wt qu co) hsz)) 0 0 (va_A (mw dI bd sz ln sy wt qu co) hsz) := by
  refine en_wi (by decide) (Nat.le_of_ble_eq_true rfl) ?_
  intro p e s m below meth c F hr hlk A hA hK hP hD hS ls hl
  have hx := F.1
  have hb := F.2.1
  have F : CallFix p m c cX1_common 6 s [.ref (bd 0)].toArray lw_all RX1 := F
  have hl : lv_has ls 6 [(0, .ref (bd 0))] := hl
  obtain ⟨hs6, hln, hwt, hsy, hqu⟩ := id hI
  refine lv_aload_n hx hb dX1_common_0 rfl (lv_at hl 0 rfl) ?_
  refine nc_wi (n := 0) (q0 := 0) (ci := 1) (wr := []) F (metX1_found l D dI bd sz ln sy wt qu co  hI hco _) (lw_V q251 q252 q253 q25 q254) ⟨rfl, rfl⟩ (by decide +kernel) ⟨by decide, by decide⟩ hK hP hD hS hA [0, 1, 2, 3, 4, 5] [] rfl rfl rfl rfl rfl (by decide) rfl rfl rfl rfl hl rfl (Nat.le_of_ble_eq_true rfl) dX1_common_1 ⟨by decide, by decide⟩ (fun r1 u H locs hr1o hP hD hS => ?_)
  obtain ⟨co_1, rfl⟩ : ∃ z, z = u := ⟨_, rfl⟩
  have hP : va_P D vwCl (mw dI bd sz ln sy wt qu co_1) H := hP
  have hD : va_D A (mw dI bd sz ln sy wt qu co_1) := hD
  have hr1 : r1 = (nI (setOf (fdM sz ln sy qu) 10)) ∧ (∀ q9, co_1 q9 ≤ 100) := hr1o
  obtain ⟨hr1e, hr1⟩ := hr1
  subst hr1e
  refine lv_istore_n (lv' := [(1, .int (nI (setOf (fdM sz ln sy qu) 10))), (0, .ref (bd 0))]) hx hb dX1_common_4 rfl hl (by decide) rfl (fun ls hl => ?_)
  refine lv_iload_n hx hb dX1_common_5 rfl (lv_at hl 0 rfl) ?_
  refine nv_zne (tgt := 13) hx hb dX1_common_6 (by decide) (set_lt31 _) (fun c6 => ?_) (fun c6 => ?_)
  · refine lv_bipush (v := (nI 6)) hx hb dX1_common_13 (by decide) ?_
    refine lv_istore_n (lv' := [(2, .int (nI 6)), (1, .int (nI (setOf (fdM sz ln sy qu) 10))), (0, .ref (bd 0))]) hx hb dX1_common_15 rfl hl (by decide) rfl (fun ls hl => ?_)
    refine lv_iconst (v := (nI 0)) hx hb dX1_common_16 (by decide) ?_
    refine lv_istore_n (lv' := [(3, .int (nI 0)), (2, .int (nI 6)), (1, .int (nI (setOf (fdM sz ln sy qu) 10))), (0, .ref (bd 0))]) hx hb dX1_common_17 rfl hl (by decide) rfl (fun ls hl => ?_)
    refine lp_w2 (I := fun (v : Nat) (n : Nat) H locs ls => va_P D vwCl (mw dI bd sz ln sy wt qu co_1) H ∧ va_D A (mw dI bd sz ln sy wt qu co_1) ∧ va_S A s.heap H locs ∧ lv_has ls 6 [(0, .ref (bd 0)), (1, .int (nI (setOf (fdM sz ln sy qu) 10))), (2, .int (nI n)), (3, .int (nI v))] ∧ (v ≤ 10) ∧ (mmI (fdM sz ln sy qu) ln sy v 0 n)) (μ := fun (v : Nat) (n : Nat) => 10 - v) ?_ 0 6 _ _ _ ⟨hP, hD, hS, lv_sub hl [3, 2, 1, 0] rfl, (Nat.zero_le _), (mm_0 _ _ _)⟩
    intro v n H locs ls hI0 ih18
    obtain ⟨hP, hD, hS, hl, hv, hn⟩ := hI0
    have hl : lv_has ls 6 [(0, .ref (bd 0)), (1, .int (nI (setOf (fdM sz ln sy qu) 10))), (2, .int (nI n)), (3, .int (nI v))] := hl
    have hP : va_P D vwCl (mw dI bd sz ln sy wt qu co_1) H := hP
    have hD : va_D A (mw dI bd sz ln sy wt qu co_1) := hD
    refine lv_iload_n hx hb dX1_common_18 rfl (lv_at hl 3 rfl) ?_
    refine lv_bipush (v := (nI 10)) hx hb dX1_common_19 (by decide) ?_
    refine nv_cge (tgt := 94) hx hb dX1_common_21 (by decide) (by omega) (by omega) (fun c21 => ?_) (fun c21 => ?_)
    · refine lv_iload_n hx hb dX1_common_94 rfl (lv_at hl 2 rfl) ?_
      exact rt_wi hx hb hr hlk dX1_common_95 hK hS co_1 hP hD ⟨⟨n, rfl, mm_end c21 hn hln c6⟩, hr1⟩
    · refine lv_iconst (v := (nI 0)) hx hb dX1_common_24 (by decide) ?_
      refine lv_istore (lv' := [(4, .int (nI 0)), (0, .ref (bd 0)), (1, .int (nI (setOf (fdM sz ln sy qu) 10))), (2, .int (nI n)), (3, .int (nI v))]) hx hb dX1_common_25 hl (by decide) rfl (fun ls hl => ?_)
      refine lp_w2 (I := fun (w : Nat) (n2 : Nat) H locs ls => va_P D vwCl (mw dI bd sz ln sy wt qu co_1) H ∧ va_D A (mw dI bd sz ln sy wt qu co_1) ∧ va_S A s.heap H locs ∧ lv_has ls 6 [(0, .ref (bd 0)), (1, .int (nI (setOf (fdM sz ln sy qu) 10))), (2, .int (nI n2)), (3, .int (nI v)), (4, .int (nI w))] ∧ (w ≤ 10) ∧ (mmI (fdM sz ln sy qu) ln sy v w n2)) (μ := fun (w : Nat) (n2 : Nat) => 10 - w) ?_ 0 n _ _ _ ⟨hP, hD, hS, lv_sub hl [1, 2, 3, 4, 0] rfl, (Nat.zero_le _), hn⟩
      intro w n2 H locs ls hI0 ih27
      obtain ⟨hP, hD, hS, hl, hw, hn2⟩ := hI0
      have hl : lv_has ls 6 [(0, .ref (bd 0)), (1, .int (nI (setOf (fdM sz ln sy qu) 10))), (2, .int (nI n2)), (3, .int (nI v)), (4, .int (nI w))] := hl
      have hP : va_P D vwCl (mw dI bd sz ln sy wt qu co_1) H := hP
      have hD : va_D A (mw dI bd sz ln sy wt qu co_1) := hD
      have hn6 := hn2.1
      refine lv_iload hx hb dX1_common_27 (lv_at hl 4 rfl) ?_
      refine lv_bipush (v := (nI 10)) hx hb dX1_common_29 (by decide) ?_
      refine nv_cge (tgt := 88) hx hb dX1_common_31 (by decide) (by omega) (by omega) (fun c31 => ?_) (fun c31 => ?_)
      · refine lv_iinc (v := nI (v + 1)) (lv' := [(3, .int (nI (v + 1))), (0, .ref (bd 0)), (1, .int (nI (setOf (fdM sz ln sy qu) 10))), (2, .int (nI n2)), (4, .int (nI w))]) hx hb dX1_common_88 hl (k := 3) rfl (nv_inc _) (by decide) rfl (fun ls hl => ?_)
        refine lv_goto (tgt := 18) hx hb dX1_common_91 (by decide) ?_
        exact ih18 (v + 1) n2 _ _ _ (by first | omega | (dsimp only; omega)) ⟨hP, hD, hS, lv_sub hl [1, 2, 3, 0] rfl, (by omega), (mm_row c31 hn2)⟩
      · refine lv_iload_n hx hb dX1_common_34 rfl (lv_at hl 1 rfl) ?_
        refine lv_iload_n hx hb dX1_common_35 rfl (lv_at hl 3 rfl) ?_
        refine nv_ishr hx hb (set_lt31 _) (by omega) dX1_common_36 ?_
        refine lv_iconst (v := (nI 1)) hx hb dX1_common_37 (by decide) ?_
        refine nv_iand hx hb dX1_common_38 ?_
        refine lv_iconst (v := (nI 1)) hx hb dX1_common_39 (by decide) ?_
        refine nv_cne (tgt := 57) hx hb dX1_common_40 (by decide) (and1_lt _) (by omega) (fun c40 => ?_) (fun c40 => ?_)
        · refine lv_iconst (v := (nI 0)) hx hb dX1_common_57 (by decide) ?_
          refine lv_istore (lv' := [(5, .int (nI 0)), (0, .ref (bd 0)), (1, .int (nI (setOf (fdM sz ln sy qu) 10))), (2, .int (nI n2)), (3, .int (nI v)), (4, .int (nI w))]) hx hb dX1_common_58 hl (by decide) rfl (fun ls hl => ?_)
          refine lv_iload hx hb dX1_common_60 (lv_at hl 0 rfl) ?_
          refine nv_zeq (tgt := 80) hx hb dX1_common_62 (by decide) (by omega) (fun c62 => ?_) (fun c62 => ?_)
          · refine lv_iload_n hx hb dX1_common_80 rfl (lv_at hl 3 rfl) ?_
            refine lv_istore_n (lv' := [(2, .int (nI n2)), (5, .int (nI 0)), (0, .ref (bd 0)), (1, .int (nI (setOf (fdM sz ln sy qu) 10))), (3, .int (nI v)), (4, .int (nI w))]) hx hb dX1_common_81 rfl hl (by decide) rfl (fun ls hl => ?_)
            refine lv_iinc (v := nI (w + 1)) (lv' := [(4, .int (nI (w + 1))), (2, .int (nI n2)), (5, .int (nI 0)), (0, .ref (bd 0)), (1, .int (nI (setOf (fdM sz ln sy qu) 10))), (3, .int (nI v))]) hx hb dX1_common_82 hl (k := 5) rfl (nv_inc _) (by decide) rfl (fun ls hl => ?_)
            refine lv_goto (tgt := 27) hx hb dX1_common_85 (by decide) ?_
            exact ih27 (w + 1) n2 _ _ _ (by first | omega | (dsimp only; omega)) ⟨hP, hD, hS, lv_sub hl [3, 4, 1, 5, 0] rfl, (by omega), (mm_skip (fun z => c40 ((tb_one (by omega)).mpr z.1)) hn2)⟩
          · exact absurd rfl c62
        · refine lv_iload_n hx hb dX1_common_43 rfl (lv_at hl 1 rfl) ?_
          refine lv_iload hx hb dX1_common_44 (lv_at hl 4 rfl) ?_
          refine nv_ishr hx hb (set_lt31 _) (by omega) dX1_common_46 ?_
          refine lv_iconst (v := (nI 1)) hx hb dX1_common_47 (by decide) ?_
          refine nv_iand hx hb dX1_common_48 ?_
          refine lv_iconst (v := (nI 1)) hx hb dX1_common_49 (by decide) ?_
          refine nv_cne (tgt := 57) hx hb dX1_common_50 (by decide) (and1_lt _) (by omega) (fun c50 => ?_) (fun c50 => ?_)
          · refine lv_iconst (v := (nI 0)) hx hb dX1_common_57 (by decide) ?_
            refine lv_istore (lv' := [(5, .int (nI 0)), (0, .ref (bd 0)), (1, .int (nI (setOf (fdM sz ln sy qu) 10))), (2, .int (nI n2)), (3, .int (nI v)), (4, .int (nI w))]) hx hb dX1_common_58 hl (by decide) rfl (fun ls hl => ?_)
            refine lv_iload hx hb dX1_common_60 (lv_at hl 0 rfl) ?_
            refine nv_zeq (tgt := 80) hx hb dX1_common_62 (by decide) (by omega) (fun c62 => ?_) (fun c62 => ?_)
            · refine lv_iload_n hx hb dX1_common_80 rfl (lv_at hl 3 rfl) ?_
              refine lv_istore_n (lv' := [(2, .int (nI n2)), (5, .int (nI 0)), (0, .ref (bd 0)), (1, .int (nI (setOf (fdM sz ln sy qu) 10))), (3, .int (nI v)), (4, .int (nI w))]) hx hb dX1_common_81 rfl hl (by decide) rfl (fun ls hl => ?_)
              refine lv_iinc (v := nI (w + 1)) (lv' := [(4, .int (nI (w + 1))), (2, .int (nI n2)), (5, .int (nI 0)), (0, .ref (bd 0)), (1, .int (nI (setOf (fdM sz ln sy qu) 10))), (3, .int (nI v))]) hx hb dX1_common_82 hl (k := 5) rfl (nv_inc _) (by decide) rfl (fun ls hl => ?_)
              refine lv_goto (tgt := 27) hx hb dX1_common_85 (by decide) ?_
              exact ih27 (w + 1) n2 _ _ _ (by first | omega | (dsimp only; omega)) ⟨hP, hD, hS, lv_sub hl [3, 4, 1, 5, 0] rfl, (by omega), (mm_skip (fun z => c50 ((tb_one (by omega)).mpr z.2)) hn2)⟩
            · exact absurd rfl c62
          · refine lv_iconst (v := (nI 1)) hx hb dX1_common_53 (by decide) ?_
            refine lv_goto (tgt := 58) hx hb dX1_common_54 (by decide) ?_
            refine lv_istore (lv' := [(5, .int (nI 1)), (0, .ref (bd 0)), (1, .int (nI (setOf (fdM sz ln sy qu) 10))), (2, .int (nI n2)), (3, .int (nI v)), (4, .int (nI w))]) hx hb dX1_common_58 hl (by decide) rfl (fun ls hl => ?_)
            refine lv_iload hx hb dX1_common_60 (lv_at hl 0 rfl) ?_
            refine nv_zeq (tgt := 80) hx hb dX1_common_62 (by decide) (by omega) (fun c62 => ?_) (fun c62 => ?_)
            · exact absurd c62 (by decide)
            · refine lv_aload_n hx hb dX1_common_65 rfl (lv_at hl 1 rfl) ?_
              refine lv_iload_n hx hb dX1_common_66 rfl (lv_at hl 3 rfl) ?_
              refine lv_aload_n hx hb dX1_common_67 rfl (lv_at hl 1 rfl) ?_
              refine lv_iload_n hx hb dX1_common_68 rfl (lv_at hl 4 rfl) ?_
              refine lv_iload hx hb dX1_common_69 (lv_at hl 5 rfl) ?_
              refine nc_ro (n := 2) (q0 := 0) (ci := 1) F (metX1_shared l D dI bd sz ln sy wt qu co_1 v w hI (by omega) (by omega)) (lw_V q311 q313 qs22 q25 q314) ⟨rfl, rfl⟩ (by decide +kernel) ⟨by decide, by decide⟩ hK hP rfl rfl rfl rfl hl rfl (Nat.le_of_ble_eq_true rfl) dX1_common_71 ⟨by decide, by decide⟩ (fun r71 hr71 => ?_)
              have hr71 : ∃ q, r71 = nI q ∧ lcR ln sy v w q := hr71
              obtain ⟨q, rfl, hlc⟩ := hr71
              have hq6 : q ≤ 6 := Nat.le_trans hlc.1 (hln v)
              refine nc_ro (n := 2) (q0 := 0) (ci := 1) F (metX1_min l D dI bd sz ln sy wt qu co_1 n2 q (by omega) (by omega)) (lw_V q267 q269 qs19 q25 q270) ⟨rfl, rfl⟩ (by decide +kernel) ⟨by decide, by decide⟩ hK hP rfl rfl rfl rfl hl rfl (Nat.le_of_ble_eq_true rfl) dX1_common_74 ⟨by decide, by decide⟩ (fun r74 hr74 => ?_)
              have hr74 : r74 = (nI (min n2 q)) := hr74
              subst hr74
              refine lv_goto (tgt := 81) hx hb dX1_common_77 (by decide) ?_
              refine lv_istore_n (lv' := [(2, .int (nI (min n2 q))), (5, .int (nI 1)), (0, .ref (bd 0)), (1, .int (nI (setOf (fdM sz ln sy qu) 10))), (3, .int (nI v)), (4, .int (nI w))]) hx hb dX1_common_81 rfl hl (by decide) rfl (fun ls hl => ?_)
              refine lv_iinc (v := nI (w + 1)) (lv' := [(4, .int (nI (w + 1))), (2, .int (nI (min n2 q))), (5, .int (nI 1)), (0, .ref (bd 0)), (1, .int (nI (setOf (fdM sz ln sy qu) 10))), (3, .int (nI v))]) hx hb dX1_common_82 hl (k := 5) rfl (nv_inc _) (by decide) rfl (fun ls hl => ?_)
              refine lv_goto (tgt := 27) hx hb dX1_common_85 (by decide) ?_
              exact ih27 (w + 1) (min n2 q) _ _ _ (by first | omega | (dsimp only; omega)) ⟨hP, hD, hS, lv_sub hl [3, 4, 1, 5, 0] rfl, (by omega), (mm_put (by omega) (by omega) ((tb_one (by omega)).mp c40) ((tb_one (by omega)).mp c50) hlc hn2)⟩
  · refine lv_iconst (v := (nI 0)) hx hb dX1_common_9 (by decide) ?_
    refine lv_goto (tgt := 15) hx hb dX1_common_10 (by decide) ?_
    refine lv_istore_n (lv' := [(2, .int (nI 0)), (1, .int (nI (setOf (fdM sz ln sy qu) 10))), (0, .ref (bd 0))]) hx hb dX1_common_15 rfl hl (by decide) rfl (fun ls hl => ?_)
    refine lv_iconst (v := (nI 0)) hx hb dX1_common_16 (by decide) ?_
    refine lv_istore_n (lv' := [(3, .int (nI 0)), (2, .int (nI 0)), (1, .int (nI (setOf (fdM sz ln sy qu) 10))), (0, .ref (bd 0))]) hx hb dX1_common_17 rfl hl (by decide) rfl (fun ls hl => ?_)
    refine lp_w2 (I := fun (v : Nat) (n : Nat) H locs ls => va_P D vwCl (mw dI bd sz ln sy wt qu co_1) H ∧ va_D A (mw dI bd sz ln sy wt qu co_1) ∧ va_S A s.heap H locs ∧ lv_has ls 6 [(0, .ref (bd 0)), (1, .int (nI (setOf (fdM sz ln sy qu) 10))), (2, .int (nI n)), (3, .int (nI v))] ∧ (v ≤ 10) ∧ (n = 0)) (μ := fun (v : Nat) (n : Nat) => 10 - v) ?_ 0 0 _ _ _ ⟨hP, hD, hS, lv_sub hl [3, 2, 1, 0] rfl, (Nat.zero_le _), rfl⟩
    intro v n H locs ls hI0 ih18
    obtain ⟨hP, hD, hS, hl, hv, hn⟩ := hI0
    have hl : lv_has ls 6 [(0, .ref (bd 0)), (1, .int (nI (setOf (fdM sz ln sy qu) 10))), (2, .int (nI n)), (3, .int (nI v))] := hl
    have hP : va_P D vwCl (mw dI bd sz ln sy wt qu co_1) H := hP
    have hD : va_D A (mw dI bd sz ln sy wt qu co_1) := hD
    refine lv_iload_n hx hb dX1_common_18 rfl (lv_at hl 3 rfl) ?_
    refine lv_bipush (v := (nI 10)) hx hb dX1_common_19 (by decide) ?_
    refine nv_cge (tgt := 94) hx hb dX1_common_21 (by decide) (by omega) (by omega) (fun c21 => ?_) (fun c21 => ?_)
    · refine lv_iload_n hx hb dX1_common_94 rfl (lv_at hl 2 rfl) ?_
      exact rt_wi hx hb hr hlk dX1_common_95 hK hS co_1 hP hD ⟨⟨n, rfl, by rw [hn]; exact cm_0 c6⟩, hr1⟩
    · refine lv_iconst (v := (nI 0)) hx hb dX1_common_24 (by decide) ?_
      refine lv_istore (lv' := [(4, .int (nI 0)), (0, .ref (bd 0)), (1, .int (nI (setOf (fdM sz ln sy qu) 10))), (2, .int (nI n)), (3, .int (nI v))]) hx hb dX1_common_25 hl (by decide) rfl (fun ls hl => ?_)
      refine lp_w2 (I := fun (w : Nat) (n2 : Nat) H locs ls => va_P D vwCl (mw dI bd sz ln sy wt qu co_1) H ∧ va_D A (mw dI bd sz ln sy wt qu co_1) ∧ va_S A s.heap H locs ∧ lv_has ls 6 [(0, .ref (bd 0)), (1, .int (nI (setOf (fdM sz ln sy qu) 10))), (2, .int (nI n2)), (3, .int (nI v)), (4, .int (nI w))] ∧ (w ≤ 10) ∧ (n2 = 0)) (μ := fun (w : Nat) (n2 : Nat) => 10 - w) ?_ 0 n _ _ _ ⟨hP, hD, hS, lv_sub hl [1, 2, 3, 4, 0] rfl, (Nat.zero_le _), hn⟩
      intro w n2 H locs ls hI0 ih27
      obtain ⟨hP, hD, hS, hl, hw, hn2⟩ := hI0
      have hl : lv_has ls 6 [(0, .ref (bd 0)), (1, .int (nI (setOf (fdM sz ln sy qu) 10))), (2, .int (nI n2)), (3, .int (nI v)), (4, .int (nI w))] := hl
      have hP : va_P D vwCl (mw dI bd sz ln sy wt qu co_1) H := hP
      have hD : va_D A (mw dI bd sz ln sy wt qu co_1) := hD
      refine lv_iload hx hb dX1_common_27 (lv_at hl 4 rfl) ?_
      refine lv_bipush (v := (nI 10)) hx hb dX1_common_29 (by decide) ?_
      refine nv_cge (tgt := 88) hx hb dX1_common_31 (by decide) (by omega) (by omega) (fun c31 => ?_) (fun c31 => ?_)
      · refine lv_iinc (v := nI (v + 1)) (lv' := [(3, .int (nI (v + 1))), (0, .ref (bd 0)), (1, .int (nI (setOf (fdM sz ln sy qu) 10))), (2, .int (nI n2)), (4, .int (nI w))]) hx hb dX1_common_88 hl (k := 3) rfl (nv_inc _) (by decide) rfl (fun ls hl => ?_)
        refine lv_goto (tgt := 18) hx hb dX1_common_91 (by decide) ?_
        exact ih18 (v + 1) n2 _ _ _ (by first | omega | (dsimp only; omega)) ⟨hP, hD, hS, lv_sub hl [1, 2, 3, 0] rfl, (by omega), hn2⟩
      · refine lv_iload_n hx hb dX1_common_34 rfl (lv_at hl 1 rfl) ?_
        refine lv_iload_n hx hb dX1_common_35 rfl (lv_at hl 3 rfl) ?_
        refine nv_ishr hx hb (set_lt31 _) (by omega) dX1_common_36 ?_
        refine lv_iconst (v := (nI 1)) hx hb dX1_common_37 (by decide) ?_
        refine nv_iand hx hb dX1_common_38 ?_
        refine lv_iconst (v := (nI 1)) hx hb dX1_common_39 (by decide) ?_
        refine nv_cne (tgt := 57) hx hb dX1_common_40 (by decide) (and1_lt _) (by omega) (fun c40 => ?_) (fun c40 => ?_)
        · refine lv_iconst (v := (nI 0)) hx hb dX1_common_57 (by decide) ?_
          refine lv_istore (lv' := [(5, .int (nI 0)), (0, .ref (bd 0)), (1, .int (nI (setOf (fdM sz ln sy qu) 10))), (2, .int (nI n2)), (3, .int (nI v)), (4, .int (nI w))]) hx hb dX1_common_58 hl (by decide) rfl (fun ls hl => ?_)
          refine lv_iload hx hb dX1_common_60 (lv_at hl 0 rfl) ?_
          refine nv_zeq (tgt := 80) hx hb dX1_common_62 (by decide) (by omega) (fun c62 => ?_) (fun c62 => ?_)
          · refine lv_iload_n hx hb dX1_common_80 rfl (lv_at hl 3 rfl) ?_
            refine lv_istore_n (lv' := [(2, .int (nI n2)), (5, .int (nI 0)), (0, .ref (bd 0)), (1, .int (nI (setOf (fdM sz ln sy qu) 10))), (3, .int (nI v)), (4, .int (nI w))]) hx hb dX1_common_81 rfl hl (by decide) rfl (fun ls hl => ?_)
            refine lv_iinc (v := nI (w + 1)) (lv' := [(4, .int (nI (w + 1))), (2, .int (nI n2)), (5, .int (nI 0)), (0, .ref (bd 0)), (1, .int (nI (setOf (fdM sz ln sy qu) 10))), (3, .int (nI v))]) hx hb dX1_common_82 hl (k := 5) rfl (nv_inc _) (by decide) rfl (fun ls hl => ?_)
            refine lv_goto (tgt := 27) hx hb dX1_common_85 (by decide) ?_
            exact ih27 (w + 1) n2 _ _ _ (by first | omega | (dsimp only; omega)) ⟨hP, hD, hS, lv_sub hl [3, 4, 1, 5, 0] rfl, (by omega), hn2⟩
          · exact absurd rfl c62
        · refine lv_iload_n hx hb dX1_common_43 rfl (lv_at hl 1 rfl) ?_
          refine lv_iload hx hb dX1_common_44 (lv_at hl 4 rfl) ?_
          refine nv_ishr hx hb (set_lt31 _) (by omega) dX1_common_46 ?_
          refine lv_iconst (v := (nI 1)) hx hb dX1_common_47 (by decide) ?_
          refine nv_iand hx hb dX1_common_48 ?_
          refine lv_iconst (v := (nI 1)) hx hb dX1_common_49 (by decide) ?_
          refine nv_cne (tgt := 57) hx hb dX1_common_50 (by decide) (and1_lt _) (by omega) (fun c50 => ?_) (fun c50 => ?_)
          · refine lv_iconst (v := (nI 0)) hx hb dX1_common_57 (by decide) ?_
            refine lv_istore (lv' := [(5, .int (nI 0)), (0, .ref (bd 0)), (1, .int (nI (setOf (fdM sz ln sy qu) 10))), (2, .int (nI n2)), (3, .int (nI v)), (4, .int (nI w))]) hx hb dX1_common_58 hl (by decide) rfl (fun ls hl => ?_)
            refine lv_iload hx hb dX1_common_60 (lv_at hl 0 rfl) ?_
            refine nv_zeq (tgt := 80) hx hb dX1_common_62 (by decide) (by omega) (fun c62 => ?_) (fun c62 => ?_)
            · refine lv_iload_n hx hb dX1_common_80 rfl (lv_at hl 3 rfl) ?_
              refine lv_istore_n (lv' := [(2, .int (nI n2)), (5, .int (nI 0)), (0, .ref (bd 0)), (1, .int (nI (setOf (fdM sz ln sy qu) 10))), (3, .int (nI v)), (4, .int (nI w))]) hx hb dX1_common_81 rfl hl (by decide) rfl (fun ls hl => ?_)
              refine lv_iinc (v := nI (w + 1)) (lv' := [(4, .int (nI (w + 1))), (2, .int (nI n2)), (5, .int (nI 0)), (0, .ref (bd 0)), (1, .int (nI (setOf (fdM sz ln sy qu) 10))), (3, .int (nI v))]) hx hb dX1_common_82 hl (k := 5) rfl (nv_inc _) (by decide) rfl (fun ls hl => ?_)
              refine lv_goto (tgt := 27) hx hb dX1_common_85 (by decide) ?_
              exact ih27 (w + 1) n2 _ _ _ (by first | omega | (dsimp only; omega)) ⟨hP, hD, hS, lv_sub hl [3, 4, 1, 5, 0] rfl, (by omega), hn2⟩
            · exact absurd rfl c62
          · exact (set0_no c6 (by omega) ((tb_one (by omega)).mp c50)).elim
end
section
set_option maxRecDepth 100000
def zN : Nat → Nat := fun _ => 0
def ad7 (a0 a1 a2 a3 a4 a5 a6 : Nat) : Nat → Nat := fun k => match k with
  | 0 => a0
  | 1 => a1
  | 2 => a2
  | 3 => a3
  | 4 => a4
  | 5 => a5
  | _ => a6
def ad6 (a0 a1 a2 a3 a4 a5 : Nat) : Nat → Nat := fun k => match k with
  | 0 => a0
  | 1 => a1
  | 2 => a2
  | 3 => a3
  | 4 => a4
  | _ => a5
abbrev fX0 : List Value := [.int (nI 0), .null, .null, .null, .null, .int (nI 0), .null, .int (nI 0), .int (nI 0), .int (nI 0), .int (nI 0), .null, .int (nI 0)]
abbrev fX1 : List Value := [.null, .null, .null, .int (nI 0), .null, .null]
abbrev rX0_init : Room := { frames := 1, cells := 6, slots := 100, locals := 12 }
set_option maxHeartbeats 4000000 in
/-- TypoSearch(): its arrays, all zero -/
theorem metX0_init (l : Launch) (D : va_G) (h0 hsz : Nat) : Met l yX0_init (ws_ yX0_init cX0_init 1 none) rX0_init (PW D [] [(h0, .inr (0, fX0))] [.ref h0] hsz) (va_Qv (fun u : ClassId × (Nat → Nat) => u.2 0 = h0) (fun u t => va_P D vwCl (xw u.1 u.2 0 0 0 0 0 0 0 zN zN zN zN zN zN) t.heap ∧ va_K D vwCl [(u.1, .byte)] t ∧ va_D (va_A [(h0, .inr (0, fX0))] hsz) (xw u.1 u.2 0 0 0 0 0 0 0 zN zN zN zN zN zN)) (va_A [(h0, .inr (0, fX0))] hsz)) 6 100 (va_A [(h0, .inr (0, fX0))] hsz) := by
  refine Met.ofW (cc := cX0_init) (maxL := 1) (ret := none) (by decide) rfl ?_
  intro p e s m args below meth c s₁ B hml hv
  obtain ⟨rfl, hsz0, hP, hK, hD0⟩ := hv
  have hx := B.exec
  have hb := B.bytes
  have hr := B.returns
  have hts := atoms_spec (ws := ws_ yX0_init cX0_init 1 none) B.pre
  have hts : ∀ w ∈ lw_all, w.before _ s = true := fun w h => hts w (List.mem_cons_of_mem _ h)
  have hown : s.vm.findClass RX0 = some m.cls := findClass_of_methodNamed B.named
  have hlocks := B.notSynchronized
  have hin : meth.name = "<init>" := (name_of_methodNamed B.named B.method).1
  subst hsz0
  have hD := hD0.self (sz := s.heap.size)
  generalize hAe : va_A [(h0, .inr (0, fX0))] s.heap.size = A at hD ⊢
  have hA : ∀ q : Nat, s.heap.size ≤ q → A q := fun q h => by rw [← hAe]; exact Or.inr h
  have hS : va_S A s.heap s.heap [] := va_S.rf
  have hP : va_P D vwCl [(h0, .inr (0, fX0))] s.heap := hP
  have hl := lv_entry ([.ref h0]) (n := 1) (Nat.le_of_ble_eq_true rfl)
  rw [lg_entry_eq]
  generalize (lg_sl ([.ref h0]) ++ List.replicate (1 - (lg_sl ([.ref h0])).length) Slot.unset).toArray = ls at hl ⊢
  have hl : lv_has ls 1 [(0, .ref h0)] := hl
  refine lv_aload_n hx hb dX0_init_0 rfl (lv_at hl 0 rfl) ?_
  refine W.objInit hx hb hown (hts _ q31) (hts _ q32) (hts _ q33) rfl (by rw [hml]; exact hl.1) rfl dX0_init_1 (Nat.le_of_ble_eq_true rfl) (Nat.le_of_ble_eq_true rfl) ?_
  refine W.eq (g2 := F0 m 4 ls []) rfl ?_
  refine lv_aload_n hx hb dX0_init_4 rfl (lv_at hl 0 rfl) ?_
  refine lv_bipush (v := nI 10) hx hb dX0_init_5 (by decide) ?_
  refine va_newa (atype := .byte) (ty := .byte) (a0 := (10, .inl (fun j => nI (zN j)))) (N' := 10) hx hb (hts _ q74) rfl hK hP hD hS hA (fun cA => rfl) (by decide) (by decide) (by decide) (Nat.le_of_ble_eq_true rfl) (Nat.le_of_ble_eq_true rfl) dX0_init_7 (fun a1 dA H hK hP hD hS => ?_)
  have hK : va_K D vwCl [(dA, .byte)] s := hK
  have hP : va_P D vwCl [(h0, .inr (0, [.int (nI 0), .null, .null, .null, .null, .int (nI 0), .null, .int (nI 0), .int (nI 0), .int (nI 0), .int (nI 0), .null, .int (nI 0)])), (a1, .inl (dA, 10, .inl (fun j => nI (zN j))))] H := hP
  have hD : va_D A [(h0, .inr (0, [.int (nI 0), .null, .null, .null, .null, .int (nI 0), .null, .int (nI 0), .int (nI 0), .int (nI 0), .int (nI 0), .null, .int (nI 0)])), (a1, .inl (dA, 10, .inl (fun j => nI (zN j))))] := hD
  refine W.widen (k := 1) (n := 10) (Nat.le_of_ble_eq_true rfl) (Nat.le_of_ble_eq_true rfl) ?_
  refine va_putF (D := D) (ci := 0) (v := .ref a1) (ty := .array .byte) (C := RX0) (T := TX0) (N := 13) hx hb hts in_X0 tyX0 tyX0_ok nmX0 hown hK hP hD hS 0 rfl rfl 1 (by decide) (hts _ q35) (fun _ h9 => h9) rfl hin rfl (by decide +kernel) rfl rfl (Nat.le_of_ble_eq_true rfl) dX0_init_9 (fun H locs hP hD hS => ?_)
  have hP : va_P D vwCl [(h0, .inr (0, [.int (nI 0), .ref a1, .null, .null, .null, .int (nI 0), .null, .int (nI 0), .int (nI 0), .int (nI 0), .int (nI 0), .null, .int (nI 0)])), (a1, .inl (dA, 10, .inl (fun j => nI (zN j))))] H := hP
  have hD : va_D A [(h0, .inr (0, [.int (nI 0), .ref a1, .null, .null, .null, .int (nI 0), .null, .int (nI 0), .int (nI 0), .int (nI 0), .int (nI 0), .null, .int (nI 0)])), (a1, .inl (dA, 10, .inl (fun j => nI (zN j))))] := hD
  refine lv_aload_n hx hb dX0_init_12 rfl (lv_at hl 0 rfl) ?_
  refine lv_bipush (v := nI 10) hx hb dX0_init_13 (by decide) ?_
  refine va_newa (atype := .byte) (ty := .byte) (a0 := (10, .inl (fun j => nI (zN j)))) (N' := 10) hx hb (hts _ q74) rfl hK hP hD hS hA (fun cA => rfl) (by decide) (by decide) (by decide) (Nat.le_of_ble_eq_true rfl) (Nat.le_of_ble_eq_true rfl) dX0_init_15 (fun a2 cA H hK hP hD hS => ?_)
  have hK : va_K D vwCl [(dA, .byte), (cA, .byte)] s := hK
  obtain rfl : dA = cA := Option.some.inj (Eq.trans (Eq.symm (hK.2 0 _ rfl).2) (hK.2 1 _ rfl).2)
  have hK : va_K D vwCl [(dA, .byte)] s := hK.sub [0] rfl
  have hP : va_P D vwCl [(h0, .inr (0, [.int (nI 0), .ref a1, .null, .null, .null, .int (nI 0), .null, .int (nI 0), .int (nI 0), .int (nI 0), .int (nI 0), .null, .int (nI 0)])), (a1, .inl (dA, 10, .inl (fun j => nI (zN j)))), (a2, .inl (dA, 10, .inl (fun j => nI (zN j))))] H := hP
  have hD : va_D A [(h0, .inr (0, [.int (nI 0), .ref a1, .null, .null, .null, .int (nI 0), .null, .int (nI 0), .int (nI 0), .int (nI 0), .int (nI 0), .null, .int (nI 0)])), (a1, .inl (dA, 10, .inl (fun j => nI (zN j)))), (a2, .inl (dA, 10, .inl (fun j => nI (zN j))))] := hD
  refine W.widen (k := 2) (n := 20) (Nat.le_of_ble_eq_true rfl) (Nat.le_of_ble_eq_true rfl) ?_
  refine va_putF (D := D) (ci := 0) (v := .ref a2) (ty := .array .byte) (C := RX0) (T := TX0) (N := 13) hx hb hts in_X0 tyX0 tyX0_ok nmX0 hown hK hP hD hS 0 rfl rfl 2 (by decide) (hts _ q36) (fun _ h9 => h9) rfl hin rfl (by decide +kernel) rfl rfl (Nat.le_of_ble_eq_true rfl) dX0_init_17 (fun H locs hP hD hS => ?_)
  have hP : va_P D vwCl [(h0, .inr (0, [.int (nI 0), .ref a1, .ref a2, .null, .null, .int (nI 0), .null, .int (nI 0), .int (nI 0), .int (nI 0), .int (nI 0), .null, .int (nI 0)])), (a1, .inl (dA, 10, .inl (fun j => nI (zN j)))), (a2, .inl (dA, 10, .inl (fun j => nI (zN j))))] H := hP
  have hD : va_D A [(h0, .inr (0, [.int (nI 0), .ref a1, .ref a2, .null, .null, .int (nI 0), .null, .int (nI 0), .int (nI 0), .int (nI 0), .int (nI 0), .null, .int (nI 0)])), (a1, .inl (dA, 10, .inl (fun j => nI (zN j)))), (a2, .inl (dA, 10, .inl (fun j => nI (zN j))))] := hD
  refine lv_aload_n hx hb dX0_init_20 rfl (lv_at hl 0 rfl) ?_
  refine lv_bipush (v := nI 60) hx hb dX0_init_21 (by decide) ?_
  refine va_newa (atype := .byte) (ty := .byte) (a0 := (60, .inl (fun j => nI (zN j)))) (N' := 60) hx hb (hts _ q74) rfl hK hP hD hS hA (fun cA => rfl) (by decide) (by decide) (by decide) (Nat.le_of_ble_eq_true rfl) (Nat.le_of_ble_eq_true rfl) dX0_init_23 (fun a3 cA H hK hP hD hS => ?_)
  have hK : va_K D vwCl [(dA, .byte), (cA, .byte)] s := hK
  obtain rfl : dA = cA := Option.some.inj (Eq.trans (Eq.symm (hK.2 0 _ rfl).2) (hK.2 1 _ rfl).2)
  have hK : va_K D vwCl [(dA, .byte)] s := hK.sub [0] rfl
  have hP : va_P D vwCl [(h0, .inr (0, [.int (nI 0), .ref a1, .ref a2, .null, .null, .int (nI 0), .null, .int (nI 0), .int (nI 0), .int (nI 0), .int (nI 0), .null, .int (nI 0)])), (a1, .inl (dA, 10, .inl (fun j => nI (zN j)))), (a2, .inl (dA, 10, .inl (fun j => nI (zN j)))), (a3, .inl (dA, 60, .inl (fun j => nI (zN j))))] H := hP
  have hD : va_D A [(h0, .inr (0, [.int (nI 0), .ref a1, .ref a2, .null, .null, .int (nI 0), .null, .int (nI 0), .int (nI 0), .int (nI 0), .int (nI 0), .null, .int (nI 0)])), (a1, .inl (dA, 10, .inl (fun j => nI (zN j)))), (a2, .inl (dA, 10, .inl (fun j => nI (zN j)))), (a3, .inl (dA, 60, .inl (fun j => nI (zN j))))] := hD
  refine W.widen (k := 3) (n := 80) (Nat.le_of_ble_eq_true rfl) (Nat.le_of_ble_eq_true rfl) ?_
  refine va_putF (D := D) (ci := 0) (v := .ref a3) (ty := .array .byte) (C := RX0) (T := TX0) (N := 13) hx hb hts in_X0 tyX0 tyX0_ok nmX0 hown hK hP hD hS 0 rfl rfl 3 (by decide) (hts _ q37) (fun _ h9 => h9) rfl hin rfl (by decide +kernel) rfl rfl (Nat.le_of_ble_eq_true rfl) dX0_init_25 (fun H locs hP hD hS => ?_)
  have hP : va_P D vwCl [(h0, .inr (0, [.int (nI 0), .ref a1, .ref a2, .ref a3, .null, .int (nI 0), .null, .int (nI 0), .int (nI 0), .int (nI 0), .int (nI 0), .null, .int (nI 0)])), (a1, .inl (dA, 10, .inl (fun j => nI (zN j)))), (a2, .inl (dA, 10, .inl (fun j => nI (zN j)))), (a3, .inl (dA, 60, .inl (fun j => nI (zN j))))] H := hP
  have hD : va_D A [(h0, .inr (0, [.int (nI 0), .ref a1, .ref a2, .ref a3, .null, .int (nI 0), .null, .int (nI 0), .int (nI 0), .int (nI 0), .int (nI 0), .null, .int (nI 0)])), (a1, .inl (dA, 10, .inl (fun j => nI (zN j)))), (a2, .inl (dA, 10, .inl (fun j => nI (zN j)))), (a3, .inl (dA, 60, .inl (fun j => nI (zN j))))] := hD
  refine lv_aload_n hx hb dX0_init_28 rfl (lv_at hl 0 rfl) ?_
  refine lv_bipush (v := nI 6) hx hb dX0_init_29 (by decide) ?_
  refine va_newa (atype := .byte) (ty := .byte) (a0 := (6, .inl (fun j => nI (zN j)))) (N' := 6) hx hb (hts _ q74) rfl hK hP hD hS hA (fun cA => rfl) (by decide) (by decide) (by decide) (Nat.le_of_ble_eq_true rfl) (Nat.le_of_ble_eq_true rfl) dX0_init_31 (fun a4 cA H hK hP hD hS => ?_)
  have hK : va_K D vwCl [(dA, .byte), (cA, .byte)] s := hK
  obtain rfl : dA = cA := Option.some.inj (Eq.trans (Eq.symm (hK.2 0 _ rfl).2) (hK.2 1 _ rfl).2)
  have hK : va_K D vwCl [(dA, .byte)] s := hK.sub [0] rfl
  have hP : va_P D vwCl [(h0, .inr (0, [.int (nI 0), .ref a1, .ref a2, .ref a3, .null, .int (nI 0), .null, .int (nI 0), .int (nI 0), .int (nI 0), .int (nI 0), .null, .int (nI 0)])), (a1, .inl (dA, 10, .inl (fun j => nI (zN j)))), (a2, .inl (dA, 10, .inl (fun j => nI (zN j)))), (a3, .inl (dA, 60, .inl (fun j => nI (zN j)))), (a4, .inl (dA, 6, .inl (fun j => nI (zN j))))] H := hP
  have hD : va_D A [(h0, .inr (0, [.int (nI 0), .ref a1, .ref a2, .ref a3, .null, .int (nI 0), .null, .int (nI 0), .int (nI 0), .int (nI 0), .int (nI 0), .null, .int (nI 0)])), (a1, .inl (dA, 10, .inl (fun j => nI (zN j)))), (a2, .inl (dA, 10, .inl (fun j => nI (zN j)))), (a3, .inl (dA, 60, .inl (fun j => nI (zN j)))), (a4, .inl (dA, 6, .inl (fun j => nI (zN j))))] := hD
  refine W.widen (k := 4) (n := 86) (Nat.le_of_ble_eq_true rfl) (Nat.le_of_ble_eq_true rfl) ?_
  refine va_putF (D := D) (ci := 0) (v := .ref a4) (ty := .array .byte) (C := RX0) (T := TX0) (N := 13) hx hb hts in_X0 tyX0 tyX0_ok nmX0 hown hK hP hD hS 0 rfl rfl 4 (by decide) (hts _ q38) (fun _ h9 => h9) rfl hin rfl (by decide +kernel) rfl rfl (Nat.le_of_ble_eq_true rfl) dX0_init_33 (fun H locs hP hD hS => ?_)
  have hP : va_P D vwCl [(h0, .inr (0, [.int (nI 0), .ref a1, .ref a2, .ref a3, .ref a4, .int (nI 0), .null, .int (nI 0), .int (nI 0), .int (nI 0), .int (nI 0), .null, .int (nI 0)])), (a1, .inl (dA, 10, .inl (fun j => nI (zN j)))), (a2, .inl (dA, 10, .inl (fun j => nI (zN j)))), (a3, .inl (dA, 60, .inl (fun j => nI (zN j)))), (a4, .inl (dA, 6, .inl (fun j => nI (zN j))))] H := hP
  have hD : va_D A [(h0, .inr (0, [.int (nI 0), .ref a1, .ref a2, .ref a3, .ref a4, .int (nI 0), .null, .int (nI 0), .int (nI 0), .int (nI 0), .int (nI 0), .null, .int (nI 0)])), (a1, .inl (dA, 10, .inl (fun j => nI (zN j)))), (a2, .inl (dA, 10, .inl (fun j => nI (zN j)))), (a3, .inl (dA, 60, .inl (fun j => nI (zN j)))), (a4, .inl (dA, 6, .inl (fun j => nI (zN j))))] := hD
  refine lv_aload_n hx hb dX0_init_36 rfl (lv_at hl 0 rfl) ?_
  refine lv_iconst (v := nI 4) hx hb dX0_init_37 (by decide) ?_
  refine va_newa (atype := .byte) (ty := .byte) (a0 := (4, .inl (fun j => nI (zN j)))) (N' := 4) hx hb (hts _ q74) rfl hK hP hD hS hA (fun cA => rfl) (by decide) (by decide) (by decide) (Nat.le_of_ble_eq_true rfl) (Nat.le_of_ble_eq_true rfl) dX0_init_38 (fun a5 cA H hK hP hD hS => ?_)
  have hK : va_K D vwCl [(dA, .byte), (cA, .byte)] s := hK
  obtain rfl : dA = cA := Option.some.inj (Eq.trans (Eq.symm (hK.2 0 _ rfl).2) (hK.2 1 _ rfl).2)
  have hK : va_K D vwCl [(dA, .byte)] s := hK.sub [0] rfl
  have hP : va_P D vwCl [(h0, .inr (0, [.int (nI 0), .ref a1, .ref a2, .ref a3, .ref a4, .int (nI 0), .null, .int (nI 0), .int (nI 0), .int (nI 0), .int (nI 0), .null, .int (nI 0)])), (a1, .inl (dA, 10, .inl (fun j => nI (zN j)))), (a2, .inl (dA, 10, .inl (fun j => nI (zN j)))), (a3, .inl (dA, 60, .inl (fun j => nI (zN j)))), (a4, .inl (dA, 6, .inl (fun j => nI (zN j)))), (a5, .inl (dA, 4, .inl (fun j => nI (zN j))))] H := hP
  have hD : va_D A [(h0, .inr (0, [.int (nI 0), .ref a1, .ref a2, .ref a3, .ref a4, .int (nI 0), .null, .int (nI 0), .int (nI 0), .int (nI 0), .int (nI 0), .null, .int (nI 0)])), (a1, .inl (dA, 10, .inl (fun j => nI (zN j)))), (a2, .inl (dA, 10, .inl (fun j => nI (zN j)))), (a3, .inl (dA, 60, .inl (fun j => nI (zN j)))), (a4, .inl (dA, 6, .inl (fun j => nI (zN j)))), (a5, .inl (dA, 4, .inl (fun j => nI (zN j))))] := hD
  refine W.widen (k := 5) (n := 90) (Nat.le_of_ble_eq_true rfl) (Nat.le_of_ble_eq_true rfl) ?_
  refine va_putF (D := D) (ci := 0) (v := .ref a5) (ty := .array .byte) (C := RX0) (T := TX0) (N := 13) hx hb hts in_X0 tyX0 tyX0_ok nmX0 hown hK hP hD hS 0 rfl rfl 6 (by decide) (hts _ q40) (fun _ h9 => h9) rfl hin rfl (by decide +kernel) rfl rfl (Nat.le_of_ble_eq_true rfl) dX0_init_40 (fun H locs hP hD hS => ?_)
  have hP : va_P D vwCl [(h0, .inr (0, [.int (nI 0), .ref a1, .ref a2, .ref a3, .ref a4, .int (nI 0), .ref a5, .int (nI 0), .int (nI 0), .int (nI 0), .int (nI 0), .null, .int (nI 0)])), (a1, .inl (dA, 10, .inl (fun j => nI (zN j)))), (a2, .inl (dA, 10, .inl (fun j => nI (zN j)))), (a3, .inl (dA, 60, .inl (fun j => nI (zN j)))), (a4, .inl (dA, 6, .inl (fun j => nI (zN j)))), (a5, .inl (dA, 4, .inl (fun j => nI (zN j))))] H := hP
  have hD : va_D A [(h0, .inr (0, [.int (nI 0), .ref a1, .ref a2, .ref a3, .ref a4, .int (nI 0), .ref a5, .int (nI 0), .int (nI 0), .int (nI 0), .int (nI 0), .null, .int (nI 0)])), (a1, .inl (dA, 10, .inl (fun j => nI (zN j)))), (a2, .inl (dA, 10, .inl (fun j => nI (zN j)))), (a3, .inl (dA, 60, .inl (fun j => nI (zN j)))), (a4, .inl (dA, 6, .inl (fun j => nI (zN j)))), (a5, .inl (dA, 4, .inl (fun j => nI (zN j))))] := hD
  refine lv_aload_n hx hb dX0_init_43 rfl (lv_at hl 0 rfl) ?_
  refine lv_bipush (v := nI 10) hx hb dX0_init_44 (by decide) ?_
  refine va_newa (atype := .byte) (ty := .byte) (a0 := (10, .inl (fun j => nI (zN j)))) (N' := 10) hx hb (hts _ q74) rfl hK hP hD hS hA (fun cA => rfl) (by decide) (by decide) (by decide) (Nat.le_of_ble_eq_true rfl) (Nat.le_of_ble_eq_true rfl) dX0_init_46 (fun a6 cA H hK hP hD hS => ?_)
  have hK : va_K D vwCl [(dA, .byte), (cA, .byte)] s := hK
  obtain rfl : dA = cA := Option.some.inj (Eq.trans (Eq.symm (hK.2 0 _ rfl).2) (hK.2 1 _ rfl).2)
  have hK : va_K D vwCl [(dA, .byte)] s := hK.sub [0] rfl
  have hP : va_P D vwCl [(h0, .inr (0, [.int (nI 0), .ref a1, .ref a2, .ref a3, .ref a4, .int (nI 0), .ref a5, .int (nI 0), .int (nI 0), .int (nI 0), .int (nI 0), .null, .int (nI 0)])), (a1, .inl (dA, 10, .inl (fun j => nI (zN j)))), (a2, .inl (dA, 10, .inl (fun j => nI (zN j)))), (a3, .inl (dA, 60, .inl (fun j => nI (zN j)))), (a4, .inl (dA, 6, .inl (fun j => nI (zN j)))), (a5, .inl (dA, 4, .inl (fun j => nI (zN j)))), (a6, .inl (dA, 10, .inl (fun j => nI (zN j))))] H := hP
  have hD : va_D A [(h0, .inr (0, [.int (nI 0), .ref a1, .ref a2, .ref a3, .ref a4, .int (nI 0), .ref a5, .int (nI 0), .int (nI 0), .int (nI 0), .int (nI 0), .null, .int (nI 0)])), (a1, .inl (dA, 10, .inl (fun j => nI (zN j)))), (a2, .inl (dA, 10, .inl (fun j => nI (zN j)))), (a3, .inl (dA, 60, .inl (fun j => nI (zN j)))), (a4, .inl (dA, 6, .inl (fun j => nI (zN j)))), (a5, .inl (dA, 4, .inl (fun j => nI (zN j)))), (a6, .inl (dA, 10, .inl (fun j => nI (zN j))))] := hD
  refine W.widen (k := 6) (n := 100) (Nat.le_of_ble_eq_true rfl) (Nat.le_of_ble_eq_true rfl) ?_
  refine va_putF (D := D) (ci := 0) (v := .ref a6) (ty := .array .byte) (C := RX0) (T := TX0) (N := 13) hx hb hts in_X0 tyX0 tyX0_ok nmX0 hown hK hP hD hS 0 rfl rfl 11 (by decide) (hts _ q45) (fun _ h9 => h9) rfl hin rfl (by decide +kernel) rfl rfl (Nat.le_of_ble_eq_true rfl) dX0_init_48 (fun H locs hP hD hS => ?_)
  have hP : va_P D vwCl [(h0, .inr (0, [.int (nI 0), .ref a1, .ref a2, .ref a3, .ref a4, .int (nI 0), .ref a5, .int (nI 0), .int (nI 0), .int (nI 0), .int (nI 0), .ref a6, .int (nI 0)])), (a1, .inl (dA, 10, .inl (fun j => nI (zN j)))), (a2, .inl (dA, 10, .inl (fun j => nI (zN j)))), (a3, .inl (dA, 60, .inl (fun j => nI (zN j)))), (a4, .inl (dA, 6, .inl (fun j => nI (zN j)))), (a5, .inl (dA, 4, .inl (fun j => nI (zN j)))), (a6, .inl (dA, 10, .inl (fun j => nI (zN j))))] H := hP
  have hD : va_D A [(h0, .inr (0, [.int (nI 0), .ref a1, .ref a2, .ref a3, .ref a4, .int (nI 0), .ref a5, .int (nI 0), .int (nI 0), .int (nI 0), .int (nI 0), .ref a6, .int (nI 0)])), (a1, .inl (dA, 10, .inl (fun j => nI (zN j)))), (a2, .inl (dA, 10, .inl (fun j => nI (zN j)))), (a3, .inl (dA, 60, .inl (fun j => nI (zN j)))), (a4, .inl (dA, 6, .inl (fun j => nI (zN j)))), (a5, .inl (dA, 4, .inl (fun j => nI (zN j)))), (a6, .inl (dA, 10, .inl (fun j => nI (zN j))))] := hD
  exact W.vret hx hb hr (fun t ht hW => ⟨⟨(dA, ad7 h0 a1 a2 a3 a4 a5 a6), rfl, rfl, by rw [ht]; exact hP, va_K.moved hW.alike hK, hD⟩, hS.F ht⟩) hS.2.2 dX0_init_51
abbrev rX1_init : Room := { frames := 1, cells := 5, slots := 136, locals := 12 }
set_option maxHeartbeats 4000000 in
/-- TypoSearchModel(): its arrays, all zero -/
theorem metX1_init (l : Launch) (D : va_G) (h0 hsz : Nat) : Met l yX1_init (ws_ yX1_init cX1_init 1 none) rX1_init (PW D [] [(h0, .inr (1, fX1))] [.ref h0] hsz) (va_Qv (fun u : ClassId × (Nat → Nat) => u.2 0 = h0) (fun u t => va_P D vwCl (mw u.1 u.2 0 zN zN zN zN zN) t.heap ∧ va_K D vwCl [(u.1, .int)] t ∧ va_D (va_A [(h0, .inr (1, fX1))] hsz) (mw u.1 u.2 0 zN zN zN zN zN)) (va_A [(h0, .inr (1, fX1))] hsz)) 5 136 (va_A [(h0, .inr (1, fX1))] hsz) := by
  refine Met.ofW (cc := cX1_init) (maxL := 1) (ret := none) (by decide) rfl ?_
  intro p e s m args below meth c s₁ B hml hv
  obtain ⟨rfl, hsz0, hP, hK, hD0⟩ := hv
  have hx := B.exec
  have hb := B.bytes
  have hr := B.returns
  have hts := atoms_spec (ws := ws_ yX1_init cX1_init 1 none) B.pre
  have hts : ∀ w ∈ lw_all, w.before _ s = true := fun w h => hts w (List.mem_cons_of_mem _ h)
  have hown : s.vm.findClass RX1 = some m.cls := findClass_of_methodNamed B.named
  have hlocks := B.notSynchronized
  have hin : meth.name = "<init>" := (name_of_methodNamed B.named B.method).1
  subst hsz0
  have hD := hD0.self (sz := s.heap.size)
  generalize hAe : va_A [(h0, .inr (1, fX1))] s.heap.size = A at hD ⊢
  have hA : ∀ q : Nat, s.heap.size ≤ q → A q := fun q h => by rw [← hAe]; exact Or.inr h
  have hS : va_S A s.heap s.heap [] := va_S.rf
  have hP : va_P D vwCl [(h0, .inr (1, fX1))] s.heap := hP
  have hl := lv_entry ([.ref h0]) (n := 1) (Nat.le_of_ble_eq_true rfl)
  rw [lg_entry_eq]
  generalize (lg_sl ([.ref h0]) ++ List.replicate (1 - (lg_sl ([.ref h0])).length) Slot.unset).toArray = ls at hl ⊢
  have hl : lv_has ls 1 [(0, .ref h0)] := hl
  refine lv_aload_n hx hb dX1_init_0 rfl (lv_at hl 0 rfl) ?_
  refine W.objInit hx hb hown (hts _ q198) (hts _ q32) (hts _ q33) rfl (by rw [hml]; exact hl.1) rfl dX1_init_1 (Nat.le_of_ble_eq_true rfl) (Nat.le_of_ble_eq_true rfl) ?_
  refine W.eq (g2 := F0 m 4 ls []) rfl ?_
  refine lv_aload_n hx hb dX1_init_4 rfl (lv_at hl 0 rfl) ?_
  refine lv_bipush (v := nI 10) hx hb dX1_init_5 (by decide) ?_
  refine va_newa (atype := .int) (ty := .int) (a0 := (10, .inl (fun j => nI (zN j)))) (N' := 10) hx hb (hts _ q218) rfl hK hP hD hS hA (fun cA => rfl) (by decide) (by decide) (by decide) (Nat.le_of_ble_eq_true rfl) (Nat.le_of_ble_eq_true rfl) dX1_init_7 (fun a1 dA H hK hP hD hS => ?_)
  have hK : va_K D vwCl [(dA, .int)] s := hK
  have hP : va_P D vwCl [(h0, .inr (1, [.null, .null, .null, .int (nI 0), .null, .null])), (a1, .inl (dA, 10, .inl (fun j => nI (zN j))))] H := hP
  have hD : va_D A [(h0, .inr (1, [.null, .null, .null, .int (nI 0), .null, .null])), (a1, .inl (dA, 10, .inl (fun j => nI (zN j))))] := hD
  refine W.widen (k := 1) (n := 10) (Nat.le_of_ble_eq_true rfl) (Nat.le_of_ble_eq_true rfl) ?_
  refine va_put (D := D) (ci := 1) (v := .ref a1) (ty := .array .int) (C := RX1) (T := TX1) (N := 6) hx hb hts in_X1 tyX1 tyX1_ok nmX1 hown hK hP hD hS 0 rfl rfl 0 (by decide) (hts _ q199) (fun _ h9 => h9) rfl (by decide +kernel) rfl rfl (Nat.le_of_ble_eq_true rfl) dX1_init_9 (fun H locs hP hD hS => ?_)
  have hP : va_P D vwCl [(h0, .inr (1, [.ref a1, .null, .null, .int (nI 0), .null, .null])), (a1, .inl (dA, 10, .inl (fun j => nI (zN j))))] H := hP
  have hD : va_D A [(h0, .inr (1, [.ref a1, .null, .null, .int (nI 0), .null, .null])), (a1, .inl (dA, 10, .inl (fun j => nI (zN j))))] := hD
  refine lv_aload_n hx hb dX1_init_12 rfl (lv_at hl 0 rfl) ?_
  refine lv_bipush (v := nI 60) hx hb dX1_init_13 (by decide) ?_
  refine va_newa (atype := .int) (ty := .int) (a0 := (60, .inl (fun j => nI (zN j)))) (N' := 60) hx hb (hts _ q218) rfl hK hP hD hS hA (fun cA => rfl) (by decide) (by decide) (by decide) (Nat.le_of_ble_eq_true rfl) (Nat.le_of_ble_eq_true rfl) dX1_init_15 (fun a2 cA H hK hP hD hS => ?_)
  have hK : va_K D vwCl [(dA, .int), (cA, .int)] s := hK
  obtain rfl : dA = cA := Option.some.inj (Eq.trans (Eq.symm (hK.2 0 _ rfl).2) (hK.2 1 _ rfl).2)
  have hK : va_K D vwCl [(dA, .int)] s := hK.sub [0] rfl
  have hP : va_P D vwCl [(h0, .inr (1, [.ref a1, .null, .null, .int (nI 0), .null, .null])), (a1, .inl (dA, 10, .inl (fun j => nI (zN j)))), (a2, .inl (dA, 60, .inl (fun j => nI (zN j))))] H := hP
  have hD : va_D A [(h0, .inr (1, [.ref a1, .null, .null, .int (nI 0), .null, .null])), (a1, .inl (dA, 10, .inl (fun j => nI (zN j)))), (a2, .inl (dA, 60, .inl (fun j => nI (zN j))))] := hD
  refine W.widen (k := 2) (n := 70) (Nat.le_of_ble_eq_true rfl) (Nat.le_of_ble_eq_true rfl) ?_
  refine va_put (D := D) (ci := 1) (v := .ref a2) (ty := .array .int) (C := RX1) (T := TX1) (N := 6) hx hb hts in_X1 tyX1 tyX1_ok nmX1 hown hK hP hD hS 0 rfl rfl 1 (by decide) (hts _ q200) (fun _ h9 => h9) rfl (by decide +kernel) rfl rfl (Nat.le_of_ble_eq_true rfl) dX1_init_17 (fun H locs hP hD hS => ?_)
  have hP : va_P D vwCl [(h0, .inr (1, [.ref a1, .ref a2, .null, .int (nI 0), .null, .null])), (a1, .inl (dA, 10, .inl (fun j => nI (zN j)))), (a2, .inl (dA, 60, .inl (fun j => nI (zN j))))] H := hP
  have hD : va_D A [(h0, .inr (1, [.ref a1, .ref a2, .null, .int (nI 0), .null, .null])), (a1, .inl (dA, 10, .inl (fun j => nI (zN j)))), (a2, .inl (dA, 60, .inl (fun j => nI (zN j))))] := hD
  refine lv_aload_n hx hb dX1_init_20 rfl (lv_at hl 0 rfl) ?_
  refine lv_bipush (v := nI 10) hx hb dX1_init_21 (by decide) ?_
  refine va_newa (atype := .int) (ty := .int) (a0 := (10, .inl (fun j => nI (zN j)))) (N' := 10) hx hb (hts _ q218) rfl hK hP hD hS hA (fun cA => rfl) (by decide) (by decide) (by decide) (Nat.le_of_ble_eq_true rfl) (Nat.le_of_ble_eq_true rfl) dX1_init_23 (fun a3 cA H hK hP hD hS => ?_)
  have hK : va_K D vwCl [(dA, .int), (cA, .int)] s := hK
  obtain rfl : dA = cA := Option.some.inj (Eq.trans (Eq.symm (hK.2 0 _ rfl).2) (hK.2 1 _ rfl).2)
  have hK : va_K D vwCl [(dA, .int)] s := hK.sub [0] rfl
  have hP : va_P D vwCl [(h0, .inr (1, [.ref a1, .ref a2, .null, .int (nI 0), .null, .null])), (a1, .inl (dA, 10, .inl (fun j => nI (zN j)))), (a2, .inl (dA, 60, .inl (fun j => nI (zN j)))), (a3, .inl (dA, 10, .inl (fun j => nI (zN j))))] H := hP
  have hD : va_D A [(h0, .inr (1, [.ref a1, .ref a2, .null, .int (nI 0), .null, .null])), (a1, .inl (dA, 10, .inl (fun j => nI (zN j)))), (a2, .inl (dA, 60, .inl (fun j => nI (zN j)))), (a3, .inl (dA, 10, .inl (fun j => nI (zN j))))] := hD
  refine W.widen (k := 3) (n := 80) (Nat.le_of_ble_eq_true rfl) (Nat.le_of_ble_eq_true rfl) ?_
  refine va_put (D := D) (ci := 1) (v := .ref a3) (ty := .array .int) (C := RX1) (T := TX1) (N := 6) hx hb hts in_X1 tyX1 tyX1_ok nmX1 hown hK hP hD hS 0 rfl rfl 2 (by decide) (hts _ q201) (fun _ h9 => h9) rfl (by decide +kernel) rfl rfl (Nat.le_of_ble_eq_true rfl) dX1_init_25 (fun H locs hP hD hS => ?_)
  have hP : va_P D vwCl [(h0, .inr (1, [.ref a1, .ref a2, .ref a3, .int (nI 0), .null, .null])), (a1, .inl (dA, 10, .inl (fun j => nI (zN j)))), (a2, .inl (dA, 60, .inl (fun j => nI (zN j)))), (a3, .inl (dA, 10, .inl (fun j => nI (zN j))))] H := hP
  have hD : va_D A [(h0, .inr (1, [.ref a1, .ref a2, .ref a3, .int (nI 0), .null, .null])), (a1, .inl (dA, 10, .inl (fun j => nI (zN j)))), (a2, .inl (dA, 60, .inl (fun j => nI (zN j)))), (a3, .inl (dA, 10, .inl (fun j => nI (zN j))))] := hD
  refine lv_aload_n hx hb dX1_init_28 rfl (lv_at hl 0 rfl) ?_
  refine lv_bipush (v := nI 7) hx hb dX1_init_29 (by decide) ?_
  refine va_newa (atype := .int) (ty := .int) (a0 := (7, .inl (fun j => nI (zN j)))) (N' := 7) hx hb (hts _ q218) rfl hK hP hD hS hA (fun cA => rfl) (by decide) (by decide) (by decide) (Nat.le_of_ble_eq_true rfl) (Nat.le_of_ble_eq_true rfl) dX1_init_31 (fun a4 cA H hK hP hD hS => ?_)
  have hK : va_K D vwCl [(dA, .int), (cA, .int)] s := hK
  obtain rfl : dA = cA := Option.some.inj (Eq.trans (Eq.symm (hK.2 0 _ rfl).2) (hK.2 1 _ rfl).2)
  have hK : va_K D vwCl [(dA, .int)] s := hK.sub [0] rfl
  have hP : va_P D vwCl [(h0, .inr (1, [.ref a1, .ref a2, .ref a3, .int (nI 0), .null, .null])), (a1, .inl (dA, 10, .inl (fun j => nI (zN j)))), (a2, .inl (dA, 60, .inl (fun j => nI (zN j)))), (a3, .inl (dA, 10, .inl (fun j => nI (zN j)))), (a4, .inl (dA, 7, .inl (fun j => nI (zN j))))] H := hP
  have hD : va_D A [(h0, .inr (1, [.ref a1, .ref a2, .ref a3, .int (nI 0), .null, .null])), (a1, .inl (dA, 10, .inl (fun j => nI (zN j)))), (a2, .inl (dA, 60, .inl (fun j => nI (zN j)))), (a3, .inl (dA, 10, .inl (fun j => nI (zN j)))), (a4, .inl (dA, 7, .inl (fun j => nI (zN j))))] := hD
  refine W.widen (k := 4) (n := 87) (Nat.le_of_ble_eq_true rfl) (Nat.le_of_ble_eq_true rfl) ?_
  refine va_put (D := D) (ci := 1) (v := .ref a4) (ty := .array .int) (C := RX1) (T := TX1) (N := 6) hx hb hts in_X1 tyX1 tyX1_ok nmX1 hown hK hP hD hS 0 rfl rfl 4 (by decide) (hts _ q203) (fun _ h9 => h9) rfl (by decide +kernel) rfl rfl (Nat.le_of_ble_eq_true rfl) dX1_init_33 (fun H locs hP hD hS => ?_)
  have hP : va_P D vwCl [(h0, .inr (1, [.ref a1, .ref a2, .ref a3, .int (nI 0), .ref a4, .null])), (a1, .inl (dA, 10, .inl (fun j => nI (zN j)))), (a2, .inl (dA, 60, .inl (fun j => nI (zN j)))), (a3, .inl (dA, 10, .inl (fun j => nI (zN j)))), (a4, .inl (dA, 7, .inl (fun j => nI (zN j))))] H := hP
  have hD : va_D A [(h0, .inr (1, [.ref a1, .ref a2, .ref a3, .int (nI 0), .ref a4, .null])), (a1, .inl (dA, 10, .inl (fun j => nI (zN j)))), (a2, .inl (dA, 60, .inl (fun j => nI (zN j)))), (a3, .inl (dA, 10, .inl (fun j => nI (zN j)))), (a4, .inl (dA, 7, .inl (fun j => nI (zN j))))] := hD
  refine lv_aload_n hx hb dX1_init_36 rfl (lv_at hl 0 rfl) ?_
  refine lv_bipush (v := nI 49) hx hb dX1_init_37 (by decide) ?_
  refine va_newa (atype := .int) (ty := .int) (a0 := (49, .inl (fun j => nI (zN j)))) (N' := 49) hx hb (hts _ q218) rfl hK hP hD hS hA (fun cA => rfl) (by decide) (by decide) (by decide) (Nat.le_of_ble_eq_true rfl) (Nat.le_of_ble_eq_true rfl) dX1_init_39 (fun a5 cA H hK hP hD hS => ?_)
  have hK : va_K D vwCl [(dA, .int), (cA, .int)] s := hK
  obtain rfl : dA = cA := Option.some.inj (Eq.trans (Eq.symm (hK.2 0 _ rfl).2) (hK.2 1 _ rfl).2)
  have hK : va_K D vwCl [(dA, .int)] s := hK.sub [0] rfl
  have hP : va_P D vwCl [(h0, .inr (1, [.ref a1, .ref a2, .ref a3, .int (nI 0), .ref a4, .null])), (a1, .inl (dA, 10, .inl (fun j => nI (zN j)))), (a2, .inl (dA, 60, .inl (fun j => nI (zN j)))), (a3, .inl (dA, 10, .inl (fun j => nI (zN j)))), (a4, .inl (dA, 7, .inl (fun j => nI (zN j)))), (a5, .inl (dA, 49, .inl (fun j => nI (zN j))))] H := hP
  have hD : va_D A [(h0, .inr (1, [.ref a1, .ref a2, .ref a3, .int (nI 0), .ref a4, .null])), (a1, .inl (dA, 10, .inl (fun j => nI (zN j)))), (a2, .inl (dA, 60, .inl (fun j => nI (zN j)))), (a3, .inl (dA, 10, .inl (fun j => nI (zN j)))), (a4, .inl (dA, 7, .inl (fun j => nI (zN j)))), (a5, .inl (dA, 49, .inl (fun j => nI (zN j))))] := hD
  refine W.widen (k := 5) (n := 136) (Nat.le_of_ble_eq_true rfl) (Nat.le_of_ble_eq_true rfl) ?_
  refine va_put (D := D) (ci := 1) (v := .ref a5) (ty := .array .int) (C := RX1) (T := TX1) (N := 6) hx hb hts in_X1 tyX1 tyX1_ok nmX1 hown hK hP hD hS 0 rfl rfl 5 (by decide) (hts _ q204) (fun _ h9 => h9) rfl (by decide +kernel) rfl rfl (Nat.le_of_ble_eq_true rfl) dX1_init_41 (fun H locs hP hD hS => ?_)
  have hP : va_P D vwCl [(h0, .inr (1, [.ref a1, .ref a2, .ref a3, .int (nI 0), .ref a4, .ref a5])), (a1, .inl (dA, 10, .inl (fun j => nI (zN j)))), (a2, .inl (dA, 60, .inl (fun j => nI (zN j)))), (a3, .inl (dA, 10, .inl (fun j => nI (zN j)))), (a4, .inl (dA, 7, .inl (fun j => nI (zN j)))), (a5, .inl (dA, 49, .inl (fun j => nI (zN j))))] H := hP
  have hD : va_D A [(h0, .inr (1, [.ref a1, .ref a2, .ref a3, .int (nI 0), .ref a4, .ref a5])), (a1, .inl (dA, 10, .inl (fun j => nI (zN j)))), (a2, .inl (dA, 60, .inl (fun j => nI (zN j)))), (a3, .inl (dA, 10, .inl (fun j => nI (zN j)))), (a4, .inl (dA, 7, .inl (fun j => nI (zN j)))), (a5, .inl (dA, 49, .inl (fun j => nI (zN j))))] := hD
  exact W.vret hx hb hr (fun t ht hW => ⟨⟨(dA, ad6 h0 a1 a2 a3 a4 a5), rfl, rfl, by rw [ht]; exact hP, va_K.moved hW.alike hK, hD⟩, hS.F ht⟩) hS.2.2 dX1_init_44
end
section
set_option maxRecDepth 100000
/-! the two states side by side: P lx (TypoSearch), ln (the reference); weights, symbols, query, size are the same -/
def lkB (P : Nat) (lx ln : Nat → Nat) : Prop := (∀ w, w < 10 → P.testBit w = isB ln w) ∧ (∀ w, w < 10 → P.testBit w = true → lx w = ln w)
def lkI (P sz kn fo : Nat) (lx ln wt sy qu tc co : Nat → Nat) : Prop := xI P sz lx wt sy qu ∧ xS P sz lx sy qu tc kn fo ∧ mI sz ln wt sy qu ∧ (∀ k, co k ≤ 100) ∧ lkB P lx ln
theorem fd_eq {P : Nat} {lx ln : Nat → Nat} (h : lkB P lx ln) (sz : Nat) (sy qu : Nat → Nat) : ∀ w, w < 10 → fdX P sz lx sy qu w = fdM sz ln sy qu w := by
  intro w hw
  unfold fdX fdM
  have h1 := h.1 w hw
  rw [h1]
  show (isB ln w && _) = (isB ln w && _)
  cases hb : isB ln w with
  | false => rfl
  | true => rw [h.2 w hw (by rw [h1]; exact hb)]
theorem ln_eq {P : Nat} {lx ln : Nat → Nat} (h : lkB P lx ln) {sz : Nat} {sy qu : Nat → Nat} : ∀ w, w < 10 → fdX P sz lx sy qu w = true → lx w = ln w := fun w hw hf => h.2 w hw (fd_has hf).1
theorem pl_eq {P : Nat} {lx ln : Nat → Nat} (h : lkB P lx ln) (sz : Nat) (wt sy qu : Nat → Nat) : ∀ w, w < 10 → fdX P sz lx sy qu w = true → plX P sz lx wt sy qu w = plM sz ln wt sy qu w := by
  intro w hw hf
  have key : ∀ v, v < 10 → fdX P sz lx sy qu v = true → edX sz lx sy qu v = edX sz ln sy qu v ∧ exB sz lx sy qu v = exB sz ln sy qu v ∧ lx v = ln v := by
    intro v hv hfv
    have e := ln_eq h v hv hfv
    exact ⟨by unfold edX; rw [e], by unfold exB; rw [e], e⟩
  unfold plX plM plF
  apply cntOf_congr
  intro v hv
  rw [← fd_eq h sz sy qu v hv]
  cases hfv : fdX P sz lx sy qu v with
  | false => simp
  | true =>
    obtain ⟨k1, k2, k3⟩ := key v hv hfv
    obtain ⟨g1, g2, g3⟩ := key w hw hf
    rw [k1, k2, k3, g1, g2, g3]
theorem hs_is {P : Nat} {lx ln : Nat → Nat} (h : lkB P lx ln) (w : Int32) : hsF P w = isF ln w := inF_congr (fun j hj => h.1 j hj) w
theorem cn_eq {P : Nat} {lx ln : Nat → Nat} (h : lkB P lx ln) (sy : Nat → Nat) (sz : Nat) (qu : Nat → Nat) : cnX P lx sy sz qu = cnM ln sy sz qu := cntOf_congr (fd_eq h sz sy qu)
-- ===== the answers agree =====
theorem op_words {P : Nat} {lx ln : Nat → Nat} (hP : P < 1024) (h : lkB P lx ln) : nI P = nI (setOf (isB ln) 10) := by rw [← setOf_eq (n := 10) hP (fun i hi => h.1 i hi)]
theorem op_found {P : Nat} {lx ln : Nat → Nat} (h : lkB P lx ln) (sz : Nat) (sy qu : Nat → Nat) : nI (setOf (fdX P sz lx sy qu) 10) = nI (setOf (fdM sz ln sy qu) 10) := by rw [setOf_congr (fd_eq h sz sy qu)]
theorem op_typos {P : Nat} {lx ln : Nat → Nat} (h : lkB P lx ln) (sz : Nat) (sy qu : Nat → Nat) (w : Int32) : tyF (hsF P w) (min (edX sz lx sy qu w.toInt.toNat) 3) = tyF (isF ln w) (min (edX sz ln sy qu w.toInt.toNat) 3) := by
  rw [hs_is h w]
  cases hb : isF ln w with
  | false => rfl
  | true =>
    obtain ⟨j, hj, rfl, hp⟩ := inF_ex hb
    rw [nI_tn hj]
    unfold edX
    rw [h.2 j hj (by rw [h.1 j hj]; exact hp)]
theorem op_place {P : Nat} {lx ln : Nat → Nat} (h : lkB P lx ln) (sz : Nat) (wt sy qu : Nat → Nat) (w : Int32) : tyF (inF 10 (fdX P sz lx sy qu) w) (plX P sz lx wt sy qu w.toInt.toNat) = tyF (inF 10 (fdM sz ln sy qu) w) (plM sz ln wt sy qu w.toInt.toNat) := by
  rw [← inF_congr (fd_eq h sz sy qu) w]
  cases hb : inF 10 (fdX P sz lx sy qu) w with
  | false => rfl
  | true =>
    obtain ⟨j, hj, rfl, hp⟩ := inF_ex hb
    rw [nI_tn hj, pl_eq h sz wt sy qu j hj hp]
theorem op_at {P : Nat} {lx ln : Nat → Nat} (h : lkB P lx ln) {sz : Nat} {wt sy qu : Nat → Nat} {k r1 r2 : Int32} (h1 : atR (fdX P sz lx sy qu) (plX P sz lx wt sy qu) k r1) (h2 : atR (fdM sz ln sy qu) (plM sz ln wt sy qu) k r2) : r1 = r2 := by
  have e : ∀ v, v < 10 → (fdX P sz lx sy qu v && decide (nI (plX P sz lx wt sy qu v) = k)) = (fdM sz ln sy qu v && decide (nI (plM sz ln wt sy qu v) = k)) := by
    intro v hv
    rw [← fd_eq h sz sy qu v hv]
    cases hf : fdX P sz lx sy qu v with
    | false => rfl
    | true => rw [pl_eq h sz wt sy qu v hv hf]
  rcases h1 with ⟨v, hv, e1⟩ | ⟨hn, e1⟩
  · rcases h2 with ⟨w, hw, e2⟩ | ⟨hm, e2⟩
    · rw [e1, e2, isFst_u e hv hw]
    · exact (isFst_no e hv hm).elim
  · rcases h2 with ⟨w, hw, e2⟩ | ⟨hm, e2⟩
    · exact (isFst_no (fun i hi => (e i hi).symm) hw hn).elim
    · rw [e1, e2]
theorem op_common {P : Nat} {lx ln : Nat → Nat} (h : lkB P lx ln) {sz : Nat} {sy qu : Nat → Nat} {r1 r2 : Int32} (h1 : ∃ n, r1 = nI n ∧ cmR 10 (fdX P sz lx sy qu) lx sy n) (h2 : ∃ n, r2 = nI n ∧ cmR 10 (fdM sz ln sy qu) ln sy n) : r1 = r2 := by
  obtain ⟨n, rfl, a⟩ := h1
  obtain ⟨k, rfl, b⟩ := h2
  rw [cmR_u (fd_eq h sz sy qu) (ln_eq h) a b]
theorem op_hints {P : Nat} {lx ln : Nat → Nat} (h : lkB P lx ln) (sz : Nat) (sy qu : Nat → Nat) : nI (hnF (fun q => decide (0 < cnX P lx sy (sz + 1) q)) qu sz) = nI (hnF (fun q => decide (setOf (fdM (sz + 1) ln sy q) 10 ≠ 0)) qu sz) := by
  have e : (fun q => decide (0 < cnX P lx sy (sz + 1) q)) = (fun q => decide (setOf (fdM (sz + 1) ln sy q) 10 ≠ 0)) := by
    funext q
    rw [cn_ne, cn_eq h]; rfl
  rw [e]
theorem op_type {P : Nat} {lx ln : Nat → Nat} (h : lkB P lx ln) {sz sz1 sz2 : Nat} {sy qu qu1 qu2 : Nat → Nat} {x r1 r2 : Int32} (h1 : tyR (cnX P lx sy) sz qu x sz1 qu1 r1) (h2 : tyR (cnM ln sy) sz qu x sz2 qu2 r2) : r1 = r2 ∧ sz2 = sz1 ∧ qu2 = qu1 := by
  rcases h1 with ⟨a, a1, a2, a3⟩ | ⟨a, a0, a1, a2, a3⟩ | ⟨j, hj, rfl, a0, a2, a3, a1⟩
  · rcases h2 with ⟨b, b1, b2, b3⟩ | ⟨b, b0, b1, b2, b3⟩ | ⟨k, hk, e, b0, b2, b3, b1⟩
    · exact ⟨by rw [a1, b1], by rw [a2, b2], by rw [a3, b3]⟩
    · rw [a] at b; cases b
    · rw [e, smF_n hk] at a; cases a
  · rcases h2 with ⟨b, b1, b2, b3⟩ | ⟨b, b0, b1, b2, b3⟩ | ⟨k, hk, e, b0, b2, b3, b1⟩
    · rw [a] at b; cases b
    · exact ⟨by rw [a1, b1], by rw [a2, b2], by rw [a3, b3]⟩
    · omega
  · obtain ⟨b2, b3, b1⟩ := ty_ok hj a0 h2
    refine ⟨?_, by rw [a2, b2], by rw [a3, b3]⟩
    rw [a1, b1, a2, b2, a3, b3, cn_eq h]
theorem ty_I {cn : Nat → (Nat → Nat) → Nat} {sz sz1 : Nat} {qu qu1 : Nat → Nat} {x r : Int32} (h : tyR cn sz qu x sz1 qu1 r) (hs : sz ≤ 6) (hq : ∀ j, qu j < 4) : sz1 ≤ 6 ∧ ∀ j, qu1 j < 4 := by
  rcases h with ⟨a, a1, a2, a3⟩ | ⟨a, a0, a1, a2, a3⟩ | ⟨j, hj, rfl, a0, a2, a3, a1⟩
  · rw [a2, a3]; exact ⟨hs, hq⟩
  · rw [a2, a3]; exact ⟨hs, hq⟩
  · rw [a2, a3]; exact ⟨by omega, upN_lt hq hj⟩
theorem op_rub {sz sz1 sz2 : Nat} {qu : Nat → Nat} {r1 r2 : Int32} (h1 : rbR sz qu sz1 r1) (h2 : rbR sz qu sz2 r2) : r1 = r2 ∧ sz2 = sz1 ∧ sz1 ≤ sz := by
  rcases h1 with ⟨a, a1, a2⟩ | ⟨a, a1, a2⟩
  · rcases h2 with ⟨b, b1, b2⟩ | ⟨b, b1, b2⟩
    · exact ⟨by rw [a1, b1], by rw [a2, b2], by omega⟩
    · omega
  · rcases h2 with ⟨b, b1, b2⟩ | ⟨b, b1, b2⟩
    · omega
    · exact ⟨by rw [a2, b2], by rw [a1, b1], by omega⟩
theorem op_weigh {P : Nat} {lx ln : Nat → Nat} (h : lkB P lx ln) {wt wt1 wt2 : Nat → Nat} {w y r1 r2 : Int32} (hw : ∀ j, wt j ≤ 9) (h1 : wgR (fun j => P.testBit j) w y r1 (wt1 = wt) (fun j k => wt1 = upN wt j k)) (h2 : wgR (isB ln) w y r2 (wt2 = wt) (fun j k => wt2 = upN wt j k)) : r1 = r2 ∧ wt2 = wt1 ∧ ∀ j, wt1 j ≤ 9 := by
  rcases h1 with ⟨j, k, hj, hk, rfl, rfl, a, a1, a2⟩ | ⟨a, a1, a2⟩
  · rcases h2 with ⟨j', k', hj', hk', e1, e2, b, b1, b2⟩ | ⟨b, b1, b2⟩
    · have ej := nI_in10 hj hj' e1
      have ek := nI_in10 hk hk' e2
      subst ej ek
      exact ⟨by rw [a1, b1], by rw [a2, b2], by rw [a2]; exact upN_le hw (by omega)⟩
    · have := b j k hj hk rfl rfl
      rw [← h.1 j hj] at this
      exact absurd (this.symm.trans a) (by decide)
  · rcases h2 with ⟨j', k', hj', hk', e1, e2, b, b1, b2⟩ | ⟨b, b1, b2⟩
    · have := a j' k' hj' hk' e1 e2
      exact absurd (this.symm.trans ((h.1 j' hj').trans b)) (by decide)
    · exact ⟨by rw [a1, b1], by rw [a2, b2], by rw [a2]; exact hw⟩
theorem op_remove {P P1 kn kn1 : Nat} {lx ln ln2 : Nat → Nat} (h : lkB P lx ln) {w r1 r2 : Int32} (hp : P < 1024) (hl : ∀ j, ln j ≤ 6) (h1 : rmR (fun j => P.testBit j) w r1 (P1 = P ∧ kn1 = kn) (fun j => P1 = P &&& ((1 <<< j) ^^^ 4294967295))) (h2 : rmR (isB ln) w r2 (ln2 = ln) (fun j => ln2 = upN ln j 0)) : r1 = r2 ∧ P1 < 1024 ∧ (∀ j, ln2 j ≤ 6) ∧ lkB P1 lx ln2 := by
  rcases h1 with ⟨j, hj, rfl, a, a1, a2⟩ | ⟨a, a1, a2, a3⟩
  · rcases h2 with ⟨j', hj', e1, b, b1, b2⟩ | ⟨b, b1, b2⟩
    · have ej := nI_in10 hj hj' e1
      subst ej
      have tb : ∀ v, v < 10 → P1.testBit v = (P.testBit v && !decide (j = v)) := by
        intro v hv
        have e32 : (4294967295 : Nat) = 2 ^ 32 - 1 := by decide
        rw [a2, Nat.testBit_and, Nat.testBit_xor, Nat.one_shiftLeft, Nat.testBit_two_pow, e32, Nat.testBit_two_pow_sub_one, decide_eq_true (show v < 32 by omega)]
        simp
      refine ⟨by rw [a1, b1], ?_, by rw [b2]; exact upN_le hl (by decide), ?_, ?_⟩
      · rw [a2]; exact Nat.lt_of_le_of_lt Nat.and_le_left hp
      · intro v hv
        rw [tb v hv, b2]
        by_cases e : j = v
        · subst e
          rw [isB_0 (upN_s _ _ _)]; simp
        · have hne : v ≠ j := fun z => e z.symm
          unfold isB
          rw [upN_n hne]
          have := h.1 v hv
          unfold isB at this
          rw [this]; simp [e]
      · intro v hv hb
        rw [tb v hv] at hb
        by_cases e : j = v
        · simp [e] at hb
        · have hne : v ≠ j := fun z => e z.symm
          rw [b2, upN_n hne]
          have hb2 : P.testBit v = true := by simpa [e] using hb
          exact h.2 v hv hb2
    · have := b j hj rfl
      rw [← h.1 j hj] at this
      exact absurd (this.symm.trans a) (by decide)
  · rcases h2 with ⟨j', hj', e1, b, b1, b2⟩ | ⟨b, b1, b2⟩
    · have := a j' hj' e1
      exact absurd (this.symm.trans ((h.1 j' hj').trans b)) (by decide)
    · rw [a2, b2]
      exact ⟨by rw [a1, b1], hp, hl, h⟩
theorem op_extend {P kn kn1 : Nat} {lx ln lx1 ln2 sy sy1 sy2 : Nat → Nat} (h : lkB P lx ln) {w x r1 r2 : Int32} (hlx : ∀ j, lx j ≤ 6) (hl : ∀ j, ln j ≤ 6) (hs : ∀ j, sy j < 4) (h1 : exR (fun j => P.testBit j) lx w x r1 (kn1 = kn ∧ lx1 = lx ∧ sy1 = sy) (fun j k => lx1 = upN lx j (lx j + 1) ∧ sy1 = upN sy (6 * j + lx j) k)) (h2 : exR (isB ln) ln w x r2 (ln2 = ln ∧ sy2 = sy) (fun j k => ln2 = upN ln j (ln j + 1) ∧ sy2 = upN sy (6 * j + ln j) k)) : r1 = r2 ∧ sy2 = sy1 ∧ (∀ j, lx1 j ≤ 6) ∧ (∀ j, ln2 j ≤ 6) ∧ (∀ j, sy1 j < 4) ∧ lkB P lx1 ln2 := by
  rcases h1 with ⟨j, k, hj, hk, rfl, rfl, a, a0, a1, a2, a3⟩ | ⟨a, a1, a2, a3, a4⟩
  · have el := h.2 j hj a
    rcases h2 with ⟨j', k', hj', hk', e1, e2, b, b0, b1, b2, b3⟩ | ⟨b, b1, b2, b3⟩
    · have ej := nI_in10 hj hj' e1
      have ek := nI_in10 (by omega) (by omega) e2
      subst ej ek
      refine ⟨by rw [a1, b1], by rw [a3, b3, el], by rw [a2]; exact upN_le hlx (by omega), by rw [b2]; exact upN_le hl (by omega), by rw [a3]; exact upN_lt hs hk, ?_, ?_⟩
      · intro v hv
        rw [h.1 v hv, b2]
        by_cases e : v = j
        · subst e
          rw [isB_1 (show 0 < upN ln v (ln v + 1) v by rw [upN_s]; omega)]; exact b
        · unfold isB; rw [upN_n e]
      · intro v hv hb
        rw [a2, b2]
        by_cases e : v = j
        · subst e; rw [upN_s, upN_s, el]
        · rw [upN_n e, upN_n e]; exact h.2 v hv hb
    · have := b j k hj hk rfl rfl (by rw [← h.1 j hj]; exact a)
      omega
  · rcases h2 with ⟨j', k', hj', hk', e1, e2, b, b0, b1, b2, b3⟩ | ⟨b, b1, b2, b3⟩
    · have hb : P.testBit j' = true := by rw [h.1 j' hj']; exact b
      have := a j' k' hj' hk' e1 e2 hb
      have := h.2 j' hj' hb
      omega
    · rw [a3, a4, b2, b3]
      exact ⟨by rw [a1, b1], rfl, hlx, hl, hs, h⟩
theorem op_begin {P P1 kn kn1 : Nat} {lx ln lx1 ln2 sy sy1 sy2 wt wt1 wt2 : Nat → Nat} (h : lkB P lx ln) {x y r1 r2 : Int32} (hp : P < 1024) (hlx : ∀ j, lx j ≤ 6) (hl : ∀ j, ln j ≤ 6) (hs : ∀ j, sy j < 4) (hw : ∀ j, wt j ≤ 9) (h1 : bgR (fun v => !P.testBit v) x y r1 (P1 = P ∧ kn1 = kn ∧ lx1 = lx ∧ wt1 = wt ∧ sy1 = sy) (fun j k w => P1 = P ||| 1 <<< w ∧ lx1 = upN lx w 1 ∧ wt1 = upN wt w k ∧ sy1 = upN sy (6 * w) j)) (h2 : bgR (fun v => !isB ln v) x y r2 (ln2 = ln ∧ sy2 = sy ∧ wt2 = wt) (fun j k w => ln2 = upN ln w 1 ∧ wt2 = upN wt w k ∧ sy2 = upN sy (6 * w) j)) : r1 = r2 ∧ sy2 = sy1 ∧ wt2 = wt1 ∧ P1 < 1024 ∧ (∀ j, lx1 j ≤ 6) ∧ (∀ j, ln2 j ≤ 6) ∧ (∀ j, sy1 j < 4) ∧ (∀ j, wt1 j ≤ 9) ∧ lkB P1 lx1 ln2 := by
  have ef : ∀ v, v < 10 → (!P.testBit v) = (!isB ln v) := fun v hv => by rw [h.1 v hv]
  have same : r1 = r2 → P1 = P ∧ kn1 = kn ∧ lx1 = lx ∧ wt1 = wt ∧ sy1 = sy → ln2 = ln ∧ sy2 = sy ∧ wt2 = wt → r1 = r2 ∧ sy2 = sy1 ∧ wt2 = wt1 ∧ P1 < 1024 ∧ (∀ j, lx1 j ≤ 6) ∧ (∀ j, ln2 j ≤ 6) ∧ (∀ j, sy1 j < 4) ∧ (∀ j, wt1 j ≤ 9) ∧ lkB P1 lx1 ln2 := by
    rintro er ⟨rfl, rfl, rfl, rfl, rfl⟩ ⟨rfl, rfl, rfl⟩
    exact ⟨er, rfl, rfl, hp, hlx, hl, hs, hw, h⟩
  rcases h1 with ⟨a, a1, a2⟩ | ⟨a, a0, a1, a2⟩ | ⟨j, k, w, hj, hk, rfl, rfl, a, a1, a2, a3, a4, a5⟩
  · rcases h2 with ⟨b, b1, b2⟩ | ⟨b, b0, b1, b2⟩ | ⟨j', k', w', hj', hk', e1, e2, b, b1, b2, b3, b4⟩
    · exact same (by rw [a1, b1]) a2 b2
    · rw [a] at b; cases b
    · rw [e1, e2, smF_n hj', wgF_n hk'] at a; cases a
  · rcases h2 with ⟨b, b1, b2⟩ | ⟨b, b0, b1, b2⟩ | ⟨j', k', w', hj', hk', e1, e2, b, b1, b2, b3, b4⟩
    · rw [a] at b; cases b
    · exact same (by rw [a1, b1]) a2 b2
    · exact (isFst_no (fun i hi => (ef i hi).symm) b a0).elim
  · rcases h2 with ⟨b, b1, b2⟩ | ⟨b, b0, b1, b2⟩ | ⟨j', k', w', hj', hk', e1, e2, b, b1, b2, b3, b4⟩
    · rw [smF_n hj, wgF_n hk] at b; cases b
    · exact (isFst_no ef a b0).elim
    · have ej := nI_in10 (by omega) (by omega) e1
      have ek := nI_in10 hk hk' e2
      have ew := isFst_u ef a b
      subst ej ek ew
      have hw10 : w < 10 := a.1
      have tb : ∀ v, P1.testBit v = (P.testBit v || decide (w = v)) := by
        intro v
        rw [a2, Nat.testBit_or, Nat.one_shiftLeft, Nat.testBit_two_pow]
      refine ⟨by rw [a1, b1], by rw [a5, b4], by rw [a4, b3], ?_, by rw [a3]; exact upN_le hlx (by decide), by rw [b2]; exact upN_le hl (by decide), by rw [a5]; exact upN_lt hs hj, by rw [a4]; exact upN_le hw (by omega), ?_, ?_⟩
      · rw [a2]
        exact Nat.or_lt_two_pow (n := 10) hp (by rw [Nat.one_shiftLeft]; exact Nat.pow_lt_pow_right (by decide) hw10)
      · intro v hv
        rw [tb v, b2]
        by_cases e : v = w
        · subst e
          rw [isB_1 (show 0 < upN ln v 1 v by rw [upN_s]; decide)]; simp
        · have hne : ¬ w = v := fun z => e z.symm
          unfold isB; rw [upN_n e]
          have := h.1 v hv
          unfold isB at this
          rw [this]; simp [hne]
      · intro v hv hb
        rw [a3, b2]
        by_cases e : v = w
        · subst e; rw [upN_s, upN_s]
        · have hne : ¬ w = v := fun z => e z.symm
          rw [upN_n e, upN_n e]
          rw [tb v] at hb
          exact h.2 v hv (by simpa [hne] using hb)
theorem hnQ_lt {qu : Nat → Nat} {sz : Nat} (h : ∀ j, qu j < 4) : ∀ j, hnQ qu sz j < 4 := by
  unfold hnQ
  split
  · exact hq_lt h 4 (by decide)
  · exact h
end
section
set_option maxRecDepth 100000
def R_law : String := "TypoSearchLaw"
def lw_P (b : Addr) (xs : List Int32) (args : Array Value) (s : State) : Prop := args = #[.ref b] ∧ s.IntsAt b xs ∧ xs.length ≤ 192 ∧ (Jvm.Cond.and given_1 narrow_1).before args s = true
def lw_Q (_ : Array Value) (s : State) (o : Outcome) (t : State) : Prop := o = .returned (some (.int 1)) ∧ Framed s o t [] 600000 7290000
def lw_Z (below : List Frame) (a : Array Value) (s : State) : State → Prop := fun t => ∃ o, t.status = .running ∧ Ended t below o ∧ lw_Q a s o t
/-- the law's own end, with 1 on the stack, nothing written that was there before, its room as the claim has it -/
theorem lw_ret {p : Program} {l : Launch} {e : Env} {s : State} {m : MethodId} {below : List Frame} {meth : Method} {c : Code} {b : Nat} (hx : p.tables.exec = Jvm.exec) (hb : c.code = code) (hr : meth.sig.returnType = ret) (hlocks : meth.locks = false) {pc : Nat} {H : Heap} {ls : Array Slot} (hdg : decode code pc = .ok (.ireturn, 1)) : W p l e room_1 s m #[Value.ref b] below meth c H [] 600000 7290000 (lw_Z below #[Value.ref b] s) (F0 m pc ls [.int 1]) := by
  intro T hT X
  obtain ⟨fs, hret, hrun, hended, hW, hframe⟩ := X.leave (v := some (.int 1)) (hlocks := hlocks) (fun h => by rw [hr] at h; cases h)
  have hmeth' : T.vm.method? m = some meth := X.method'
  refine ⟨T.setFrames fs, ?_, .returned (some (.int 1)), hrun, hended, rfl, ⟨_, rfl⟩, hW, hframe⟩
  jvm_step X.here [X.here.top, hx, hb, hdg, hmeth', hr, ret, narrow_b1]
  (try refine ⟨rfl, ?_⟩); (try refine ⟨rfl, ?_⟩)
  first | (intro acts; rw [hret _ acts rfl rfl rfl]) | rw [hret _ _ rfl rfl rfl]
  exact Steps.refl _
/-- what holds at the law's entry: the machine, the code, the tables' words (any of lw_tbl by 'hts w (by decide +kernel)'), the script of L ints xs at the cell b, what the Statement gives of the start (any of its parts by flat_of_before) -/
def lw_At (p : Program) (s : State) (m : MethodId) (meth : Method) (c : Code) (b L : Nat) (xs : Nat → Int32) : Prop :=
  p.tables.exec = Jvm.exec ∧ c.code = code ∧ meth.sig.returnType = ret ∧ c.maxLocals = 4 ∧ s.vm.findClass R_law = some m.cls ∧ (∀ w ∈ lw_tbl, w.before #[Value.ref b] s = true) ∧ va_X b L xs s s.heap ∧ b < s.heap.size ∧ meth.locks = false ∧ (Jvm.Cond.and given_1 narrow_1).before #[Value.ref b] s = true
theorem lw3 {L i : Nat} (hL : L ≤ 192) (hi : i ≤ 400) (h : ¬ (nI L - nI 3 < nI i)) : i + 3 ≤ L := by
  rw [Int32.lt_iff_toInt_lt, pk_sub_toInt (by omega) (by omega), nI_toInt (by omega)] at h
  omega
theorem nv_inc3 (a : Nat) : nI a + Int32.ofInt 3 = nI (a + 3) := by
  have h : Int32.ofInt 3 = nI 3 := by decide
  rw [h]; exact nI_add a 3
section LW
variable {p : Program} {l : Launch} {e : Env} {R : Room} {s : State} {m : MethodId} {args : Array Value} {below : List Frame} {meth : Method} {c : Code} {H H0 : Heap} {locs : List Loc} {cells slots : Nat} {Q : State → Prop}
variable {cc : ByteArray} {pc : Nat} {ls : Array Slot} {rest : List Value} {A : Nat → Prop}
theorem nv_sld (hx : p.tables.exec = Jvm.exec) (hb : c.code = cc) {b L i : Nat} {xs : Nat → Int32} (hX : va_X b L xs s H0) (hbl : b < H0.size) (hbA : ¬ A b) (hS : va_S A H0 H locs) (hi : i < L) (hL : L ≤ 192) (d : decode cc pc = .ok (.iaload, 1))
    (kk : W p l e R s m args below meth c H locs cells slots Q (F0 m (pc + 1) ls (.int (xs i) :: rest))) : W p l e R s m args below meth c H locs cells slots Q (F0 m pc ls (.int (nI i) :: .ref b :: rest)) := by
  refine va_sld hx hb hX hbl hbA hS (vp_in_nI hi (by omega)) d ?_
  rw [nI_clamp (by omega)]
  exact kk
theorem lp_w16 {A1 A2 A3 A4 A5 A6 A7 A8 A9 A10 A11 A12 A13 A14 A15 A16 : Type} (I : A1 → A2 → A3 → A4 → A5 → A6 → A7 → A8 → A9 → A10 → A11 → A12 → A13 → A14 → A15 → A16 → Heap → List Loc → Array Slot → Prop) (μ : A1 → A2 → A3 → A4 → A5 → A6 → A7 → A8 → A9 → A10 → A11 → A12 → A13 → A14 → A15 → A16 → Nat) (step : ∀ (a1 : A1) (a2 : A2) (a3 : A3) (a4 : A4) (a5 : A5) (a6 : A6) (a7 : A7) (a8 : A8) (a9 : A9) (a10 : A10) (a11 : A11) (a12 : A12) (a13 : A13) (a14 : A14) (a15 : A15) (a16 : A16) (H : Heap) (locs : List Loc) (ls : Array Slot), I a1 a2 a3 a4 a5 a6 a7 a8 a9 a10 a11 a12 a13 a14 a15 a16 H locs ls → (∀ (b1 : A1) (b2 : A2) (b3 : A3) (b4 : A4) (b5 : A5) (b6 : A6) (b7 : A7) (b8 : A8) (b9 : A9) (b10 : A10) (b11 : A11) (b12 : A12) (b13 : A13) (b14 : A14) (b15 : A15) (b16 : A16) (H' : Heap) (locs' : List Loc) (ls' : Array Slot), μ b1 b2 b3 b4 b5 b6 b7 b8 b9 b10 b11 b12 b13 b14 b15 b16 < μ a1 a2 a3 a4 a5 a6 a7 a8 a9 a10 a11 a12 a13 a14 a15 a16 → I b1 b2 b3 b4 b5 b6 b7 b8 b9 b10 b11 b12 b13 b14 b15 b16 H' locs' ls' → W p l e R s m args below meth c H' locs' cells slots Q (F0 m pc ls' [])) → W p l e R s m args below meth c H locs cells slots Q (F0 m pc ls [])) (a1 : A1) (a2 : A2) (a3 : A3) (a4 : A4) (a5 : A5) (a6 : A6) (a7 : A7) (a8 : A8) (a9 : A9) (a10 : A10) (a11 : A11) (a12 : A12) (a13 : A13) (a14 : A14) (a15 : A15) (a16 : A16) (H : Heap) (locs : List Loc) (ls : Array Slot) (h : I a1 a2 a3 a4 a5 a6 a7 a8 a9 a10 a11 a12 a13 a14 a15 a16 H locs ls) : W p l e R s m args below meth c H locs cells slots Q (F0 m pc ls []) := by
  have key : ∀ (n : Nat) (a1 : A1) (a2 : A2) (a3 : A3) (a4 : A4) (a5 : A5) (a6 : A6) (a7 : A7) (a8 : A8) (a9 : A9) (a10 : A10) (a11 : A11) (a12 : A12) (a13 : A13) (a14 : A14) (a15 : A15) (a16 : A16) (H : Heap) (locs : List Loc) (ls : Array Slot), μ a1 a2 a3 a4 a5 a6 a7 a8 a9 a10 a11 a12 a13 a14 a15 a16 < n → I a1 a2 a3 a4 a5 a6 a7 a8 a9 a10 a11 a12 a13 a14 a15 a16 H locs ls → W p l e R s m args below meth c H locs cells slots Q (F0 m pc ls []) := by
    intro n
    induction n with
    | zero => intro a1 a2 a3 a4 a5 a6 a7 a8 a9 a10 a11 a12 a13 a14 a15 a16 H locs ls hm _; exact absurd hm (Nat.not_lt_zero _)
    | succ n ih => intro a1 a2 a3 a4 a5 a6 a7 a8 a9 a10 a11 a12 a13 a14 a15 a16 H locs ls hm hI; exact step a1 a2 a3 a4 a5 a6 a7 a8 a9 a10 a11 a12 a13 a14 a15 a16 H locs ls hI (fun b1 b2 b3 b4 b5 b6 b7 b8 b9 b10 b11 b12 b13 b14 b15 b16 H' locs' ls' hlt hI' => ih b1 b2 b3 b4 b5 b6 b7 b8 b9 b10 b11 b12 b13 b14 b15 b16 H' locs' ls' (Nat.lt_of_lt_of_le hlt (Nat.le_of_lt_succ hm)) hI')
  exact key (μ a1 a2 a3 a4 a5 a6 a7 a8 a9 a10 a11 a12 a13 a14 a15 a16 + 1) a1 a2 a3 a4 a5 a6 a7 a8 a9 a10 a11 a12 a13 a14 a15 a16 H locs ls (Nat.lt_succ_self _) h
end LW
set_option maxHeartbeats 16000000 in
/-- the law's loop at its head -/
theorem law_loop {p : Program} {e : Env} {s : State} {m : MethodId} {below : List Frame} {meth : Method} {c : Code} (l : Launch) {b L : Nat} {xs : Nat → Int32} (hL : L ≤ 192) (C0 : lw_At p s m meth c b L xs) (D : va_G) (dB dI : ClassId) (ad bd : Nat → Nat) (hK : va_K D vwCl [(dB, .byte), (dI, .int)] s) (i0 P0 sz0 n00 n10 n20 kn0 fo0 : Nat) (lx0 wt0 sy0 qu0 ha0 tc0 ln0 co0 : Nat → Nat) (H0 : Heap) (locs0 : List Loc) (ls0 : Array Slot) (hi0 : i0 ≤ 192) (hlk0 : lkI P0 sz0 kn0 fo0 lx0 ln0 wt0 sy0 qu0 tc0 co0) (hP0 : va_P D vwCl ((xw dB ad P0 sz0 n00 n10 n20 kn0 fo0 lx0 wt0 sy0 qu0 ha0 tc0) ++ (mw dI bd sz0 ln0 sy0 wt0 qu0 co0)) H0) (hD0 : va_D (fun q : Nat => s.heap.size ≤ q) ((xw dB ad P0 sz0 n00 n10 n20 kn0 fo0 lx0 wt0 sy0 qu0 ha0 tc0) ++ (mw dI bd sz0 ln0 sy0 wt0 qu0 co0))) (hS0 : va_S (fun q : Nat => s.heap.size ≤ q) s.heap H0 locs0) (hl0 : lv_has ls0 4 [(0, .ref b), (1, .ref (ad 0)), (2, .ref (bd 0)), (3, .int (nI i0))]) : W p l e room_1 s m #[Value.ref b] below meth c H0 locs0 600000 7290000 (lw_Z below #[Value.ref b] s) (F0 m 18 ls0 []) := by
  obtain ⟨hx, hb, hr, hml, hown, hts0, hX, hbl, hlocks, hgv⟩ := id C0
  have hA : ∀ q : Nat, s.heap.size ≤ q → (fun q : Nat => s.heap.size ≤ q) q := fun _ h => h
  have hbA : ¬ (fun q : Nat => s.heap.size ≤ q) b := Nat.not_le.mpr hbl
  have hts : ∀ w ∈ lw_all, w.before #[Value.ref b] s = true := fun w h => hts0 w (lw_all_tbl h)
  have F : CallFix p m c code 4 s #[Value.ref b] lw_all R_law := ⟨hx, hb, hml, hown, hts⟩
  have hKX : va_K D vwCl [(dB, .byte)] s := hK.sub [0] rfl
  have hKM : va_K D vwCl [(dI, .int)] s := hK.sub [1] rfl
  refine lp_w16 (I := fun (i : Nat) (P : Nat) (sz : Nat) (n0 : Nat) (n1 : Nat) (n2 : Nat) (kn : Nat) (fo : Nat) (lx : Nat → Nat) (wt : Nat → Nat) (sy : Nat → Nat) (qu : Nat → Nat) (ha : Nat → Nat) (tc : Nat → Nat) (ln : Nat → Nat) (co : Nat → Nat) H locs ls => va_P D vwCl ((xw dB ad P sz n0 n1 n2 kn fo lx wt sy qu ha tc) ++ (mw dI bd sz ln sy wt qu co)) H ∧ va_D (fun q : Nat => s.heap.size ≤ q) ((xw dB ad P sz n0 n1 n2 kn fo lx wt sy qu ha tc) ++ (mw dI bd sz ln sy wt qu co)) ∧ va_S (fun q : Nat => s.heap.size ≤ q) s.heap H locs ∧ lv_has ls 4 [(0, .ref b), (1, .ref (ad 0)), (2, .ref (bd 0)), (3, .int (nI i))] ∧ i ≤ 192 ∧ lkI P sz kn fo lx ln wt sy qu tc co) (μ := fun (i : Nat) (P : Nat) (sz : Nat) (n0 : Nat) (n1 : Nat) (n2 : Nat) (kn : Nat) (fo : Nat) (lx : Nat → Nat) (wt : Nat → Nat) (sy : Nat → Nat) (qu : Nat → Nat) (ha : Nat → Nat) (tc : Nat → Nat) (ln : Nat → Nat) (co : Nat → Nat) => 200 - i) ?_ i0 P0 sz0 n00 n10 n20 kn0 fo0 lx0 wt0 sy0 qu0 ha0 tc0 ln0 co0 H0 locs0 ls0 ⟨hP0, hD0, hS0, hl0, hi0, hlk0⟩
  intro i P sz n0 n1 n2 kn fo lx wt sy qu ha tc ln co H locs ls hI0 ih
  obtain ⟨hP, hD, hS, hl, hi, hI0⟩ := hI0
  have hP : va_P D vwCl ((xw dB ad P sz n0 n1 n2 kn fo lx wt sy qu ha tc) ++ (mw dI bd sz ln sy wt qu co)) H := hP
  have hD : va_D (fun q : Nat => s.heap.size ≤ q) ((xw dB ad P sz n0 n1 n2 kn fo lx wt sy qu ha tc) ++ (mw dI bd sz ln sy wt qu co)) := hD
  have hl : lv_has ls 4 [(0, .ref b), (1, .ref (ad 0)), (2, .ref (bd 0)), (3, .int (nI i))] := hl
  obtain ⟨hxI, hxS, hmI, hco, hlk⟩ := hI0
  obtain ⟨p1, p2, p3, p4, p5, p6⟩ := id hxI
  obtain ⟨m1, m2, m3, m4, m5⟩ := id hmI
  refine lv_iload_n hx hb dL_law_18 rfl (lv_at hl 3 rfl) ?_
  refine lv_aload_n hx hb dL_law_19 rfl (lv_at hl 0 rfl) ?_
  refine va_slen hx hb hX hbl hbA hS dL_law_20 ?_
  refine lv_iconst (v := nI 3) hx hb dL_law_21 (by decide) ?_
  refine lv_isub hx hb dL_law_22 ?_
  refine lv_icmp_gt (tgt := 402) hx hb dL_law_23 (by decide) (fun c23 => ?_) (fun c23 => ?_)
  · refine va_forget (fun q hq => hS.2.2 q hq) ?_
    refine lv_iconst (v := 1) hx hb dL_law_402 (by decide) ?_
    exact lw_ret hx hb hr hlocks dL_law_403
  have hi3 : i + 3 ≤ L := lw3 hL (by omega) c23
  refine lv_aload_n hx hb dL_law_26 rfl (lv_at hl 0 rfl) ?_
  refine lv_iload_n hx hb dL_law_27 rfl (lv_at hl 3 rfl) ?_
  refine nv_sld hx hb hX hbl hbA hS (by omega) hL dL_law_28 ?_
  refine lv_bipush (v := nI 15) hx hb dL_law_29 (by decide) ?_
  refine lv_iand hx hb dL_law_31 ?_
  obtain ⟨j, hj, ej⟩ := pk_andE (xs i) (m := nI 15) 4 (by decide)
  rw [ej]
  have hj : j < 16 := hj
  rcases (show j = 0 ∨ j = 1 ∨ j = 2 ∨ j = 3 ∨ j = 4 ∨ j = 5 ∨ j = 6 ∨ j = 7 ∨ j = 8 ∨ j = 9 ∨ j = 10 ∨ j = 11 ∨ j = 12 ∨ j = 13 ∨ 14 ≤ j by omega) with rfl | rfl | rfl | rfl | rfl | rfl | rfl | rfl | rfl | rfl | rfl | rfl | rfl | rfl | hj14
  · refine lv_tableIn (off := 72) (tgt := 104) hx hb dL_law_32 (by decide) (by decide) (by decide) (by decide) ?_
    refine lv_aload_n hx hb dL_law_104 rfl (lv_at hl 1 rfl) ?_
    refine lv_aload_n hx hb dL_law_105 rfl (lv_at hl 0 rfl) ?_
    refine lv_iload_n hx hb dL_law_106 rfl (lv_at hl 3 rfl) ?_
    refine lv_iconst (v := nI 1) hx hb dL_law_107 (by decide) ?_
    refine nv_iadd hx hb dL_law_108 ?_
    refine nv_sld hx hb hX hbl hbA hS (by omega) hL dL_law_109 ?_
    refine lv_aload_n hx hb dL_law_110 rfl (lv_at hl 0 rfl) ?_
    refine lv_iload_n hx hb dL_law_111 rfl (lv_at hl 3 rfl) ?_
    refine lv_iconst (v := nI 2) hx hb dL_law_112 (by decide) ?_
    refine nv_iadd hx hb dL_law_113 ?_
    refine nv_sld hx hb hX hbl hbA hS (by omega) hL dL_law_114 ?_
    refine nc_wi (n := 2) (q0 := 0) (ci := 0) (wr := (mw dI bd sz ln sy wt qu co)) F (metX0_begin l D dB ad P sz n0 n1 n2 kn fo lx wt sy qu ha tc (xs (i + 1)) (xs (i + 2)) hxI hxS _) (lw_V q75 q76 q77 q24 q78) ⟨rfl, rfl⟩ (by decide +kernel) ⟨by decide, by decide⟩ hKX hP hD hS hA [0, 1, 2, 3, 4, 5, 6] [7, 8, 9, 10, 11, 12] rfl rfl rfl rfl rfl (by decide) rfl rfl rfl rfl hl rfl (Nat.le_of_ble_eq_true rfl) dL_law_115 ⟨Nat.le_refl _, Nat.le_refl _⟩ (fun r1 u H locs hX1o hP hD hS => ?_)
    obtain ⟨P_1, kn_1, ln_1, wt_1, sy_1⟩ := u
    have hP : va_P D vwCl ((mw dI bd sz ln sy wt qu co) ++ (xw dB ad P_1 sz n0 n1 n2 kn_1 fo ln_1 wt_1 sy_1 qu ha tc)) H := hP
    have hD : va_D (fun q : Nat => s.heap.size ≤ q) ((mw dI bd sz ln sy wt qu co) ++ (xw dB ad P_1 sz n0 n1 n2 kn_1 fo ln_1 wt_1 sy_1 qu ha tc)) := hD
    have hX1 : bgR (fun v => !P.testBit v) ((xs (i + 1))) ((xs (i + 2))) r1 (P_1 = P ∧ kn_1 = kn ∧ ln_1 = lx ∧ wt_1 = wt ∧ sy_1 = sy) (fun j k w => P_1 = P ||| 1 <<< w ∧ ln_1 = upN lx w 1 ∧ wt_1 = upN wt w k ∧ sy_1 = upN sy (6 * w) j) ∧ xS P_1 sz ln_1 sy_1 qu tc kn_1 fo := hX1o
    refine lv_aload_n hx hb dL_law_118 rfl (lv_at hl 2 rfl) ?_
    refine lv_aload_n hx hb dL_law_119 rfl (lv_at hl 0 rfl) ?_
    refine lv_iload_n hx hb dL_law_120 rfl (lv_at hl 3 rfl) ?_
    refine lv_iconst (v := nI 1) hx hb dL_law_121 (by decide) ?_
    refine nv_iadd hx hb dL_law_122 ?_
    refine nv_sld hx hb hX hbl hbA hS (by omega) hL dL_law_123 ?_
    refine lv_aload_n hx hb dL_law_124 rfl (lv_at hl 0 rfl) ?_
    refine lv_iload_n hx hb dL_law_125 rfl (lv_at hl 3 rfl) ?_
    refine lv_iconst (v := nI 2) hx hb dL_law_126 (by decide) ?_
    refine nv_iadd hx hb dL_law_127 ?_
    refine nv_sld hx hb hX hbl hbA hS (by omega) hL dL_law_128 ?_
    refine nc_wi (n := 2) (q0 := 0) (ci := 1) (wr := (xw dB ad P_1 sz n0 n1 n2 kn_1 fo ln_1 wt_1 sy_1 qu ha tc)) F (metX1_begin l D dI bd sz ln sy wt qu co (xs (i + 1)) (xs (i + 2)) hmI hco _) (lw_V q219 q220 q221 q25 q222) ⟨rfl, rfl⟩ (by decide +kernel) ⟨by decide, by decide⟩ hKM hP hD hS hA [0, 1, 2, 3, 4, 5] [6, 7, 8, 9, 10, 11, 12] rfl rfl rfl rfl rfl (by decide) rfl rfl rfl rfl hl rfl (Nat.le_of_ble_eq_true rfl) dL_law_129 ⟨Nat.le_refl _, Nat.le_refl _⟩ (fun r2 u H locs hM1o hP hD hS => ?_)
    obtain ⟨ln_2, sy_2, wt_2⟩ := u
    have hP : va_P D vwCl ((xw dB ad P_1 sz n0 n1 n2 kn_1 fo ln_1 wt_1 sy_1 qu ha tc) ++ (mw dI bd sz ln_2 sy_2 wt_2 qu co)) H := hP
    have hD : va_D (fun q : Nat => s.heap.size ≤ q) ((xw dB ad P_1 sz n0 n1 n2 kn_1 fo ln_1 wt_1 sy_1 qu ha tc) ++ (mw dI bd sz ln_2 sy_2 wt_2 qu co)) := hD
    have hM1 : bgR (fun v => !isB ln v) ((xs (i + 1))) ((xs (i + 2))) r2 (ln_2 = ln ∧ sy_2 = sy ∧ wt_2 = wt) (fun j k w => ln_2 = upN ln w 1 ∧ wt_2 = upN wt w k ∧ sy_2 = upN sy (6 * w) j) := hM1o
    obtain ⟨er, e1, e2, g1, g2, g3, g4, g5, g6⟩ := op_begin hlk p1 p3 m2 p5 p4 hX1.1 hM1
    rw [e1, e2] at hP hD
    refine lv_icmp_eq (tgt := 396) hx hb dL_law_132 (by decide) (fun _ => ?_) (fun z => absurd er z)
    refine lv_iinc (v := nI (i + 3)) (lv' := [(3, .int (nI (i + 3))), (0, .ref b), (1, .ref (ad 0)), (2, .ref (bd 0))]) hx hb dL_law_396 hl (k := 3) rfl (nv_inc3 _) (by decide) rfl (fun ls hl => ?_)
    refine lv_goto (tgt := 18) hx hb dL_law_399 (by decide) ?_
    exact ih (i + 3) P_1 sz n0 n1 n2 kn_1 fo ln_1 wt_1 sy_1 qu ha tc ln_2 co _ _ _ (by first | omega | (dsimp only; omega)) ⟨hP, hD, hS, lv_sub hl [1, 2, 3, 0] rfl, by omega, ⟨⟨g1, p2, g2, g5, g4, p6⟩, hX1.2, ⟨m1, g3, g5, g4, m5⟩, hco, g6⟩⟩
  · refine lv_tableIn (off := 105) (tgt := 137) hx hb dL_law_32 (by decide) (by decide) (by decide) (by decide) ?_
    refine lv_aload_n hx hb dL_law_137 rfl (lv_at hl 1 rfl) ?_
    refine lv_aload_n hx hb dL_law_138 rfl (lv_at hl 0 rfl) ?_
    refine lv_iload_n hx hb dL_law_139 rfl (lv_at hl 3 rfl) ?_
    refine lv_iconst (v := nI 1) hx hb dL_law_140 (by decide) ?_
    refine nv_iadd hx hb dL_law_141 ?_
    refine nv_sld hx hb hX hbl hbA hS (by omega) hL dL_law_142 ?_
    refine lv_aload_n hx hb dL_law_143 rfl (lv_at hl 0 rfl) ?_
    refine lv_iload_n hx hb dL_law_144 rfl (lv_at hl 3 rfl) ?_
    refine lv_iconst (v := nI 2) hx hb dL_law_145 (by decide) ?_
    refine nv_iadd hx hb dL_law_146 ?_
    refine nv_sld hx hb hX hbl hbA hS (by omega) hL dL_law_147 ?_
    refine nc_wi (n := 2) (q0 := 0) (ci := 0) (wr := (mw dI bd sz ln sy wt qu co)) F (metX0_extend l D dB ad P sz n0 n1 n2 kn fo lx wt sy qu ha tc (xs (i + 1)) (xs (i + 2)) hxI hxS _) (lw_V q86 q87 q88 q24 q89) ⟨rfl, rfl⟩ (by decide +kernel) ⟨by decide, by decide⟩ hKX hP hD hS hA [0, 1, 2, 3, 4, 5, 6] [7, 8, 9, 10, 11, 12] rfl rfl rfl rfl rfl (by decide) rfl rfl rfl rfl hl rfl (Nat.le_of_ble_eq_true rfl) dL_law_148 ⟨Nat.le_refl _, Nat.le_refl _⟩ (fun r1 u H locs hX1o hP hD hS => ?_)
    obtain ⟨kn_1, ln_1, sy_1⟩ := u
    have hP : va_P D vwCl ((mw dI bd sz ln sy wt qu co) ++ (xw dB ad P sz n0 n1 n2 kn_1 fo ln_1 wt sy_1 qu ha tc)) H := hP
    have hD : va_D (fun q : Nat => s.heap.size ≤ q) ((mw dI bd sz ln sy wt qu co) ++ (xw dB ad P sz n0 n1 n2 kn_1 fo ln_1 wt sy_1 qu ha tc)) := hD
    have hX1 : exR (fun j => P.testBit j) lx ((xs (i + 1))) ((xs (i + 2))) r1 (kn_1 = kn ∧ ln_1 = lx ∧ sy_1 = sy) (fun j k => ln_1 = upN lx j (lx j + 1) ∧ sy_1 = upN sy (6 * j + lx j) k) ∧ xS P sz ln_1 sy_1 qu tc kn_1 fo := hX1o
    refine lv_aload_n hx hb dL_law_151 rfl (lv_at hl 2 rfl) ?_
    refine lv_aload_n hx hb dL_law_152 rfl (lv_at hl 0 rfl) ?_
    refine lv_iload_n hx hb dL_law_153 rfl (lv_at hl 3 rfl) ?_
    refine lv_iconst (v := nI 1) hx hb dL_law_154 (by decide) ?_
    refine nv_iadd hx hb dL_law_155 ?_
    refine nv_sld hx hb hX hbl hbA hS (by omega) hL dL_law_156 ?_
    refine lv_aload_n hx hb dL_law_157 rfl (lv_at hl 0 rfl) ?_
    refine lv_iload_n hx hb dL_law_158 rfl (lv_at hl 3 rfl) ?_
    refine lv_iconst (v := nI 2) hx hb dL_law_159 (by decide) ?_
    refine nv_iadd hx hb dL_law_160 ?_
    refine nv_sld hx hb hX hbl hbA hS (by omega) hL dL_law_161 ?_
    refine nc_wi (n := 2) (q0 := 0) (ci := 1) (wr := (xw dB ad P sz n0 n1 n2 kn_1 fo ln_1 wt sy_1 qu ha tc)) F (metX1_extend l D dI bd sz ln sy wt qu co (xs (i + 1)) (xs (i + 2)) hmI hco _) (lw_V q223 q224 q225 q25 q226) ⟨rfl, rfl⟩ (by decide +kernel) ⟨by decide, by decide⟩ hKM hP hD hS hA [0, 1, 2, 3, 4, 5] [6, 7, 8, 9, 10, 11, 12] rfl rfl rfl rfl rfl (by decide) rfl rfl rfl rfl hl rfl (Nat.le_of_ble_eq_true rfl) dL_law_162 ⟨Nat.le_refl _, Nat.le_refl _⟩ (fun r2 u H locs hM1o hP hD hS => ?_)
    obtain ⟨ln_2, sy_2⟩ := u
    have hP : va_P D vwCl ((xw dB ad P sz n0 n1 n2 kn_1 fo ln_1 wt sy_1 qu ha tc) ++ (mw dI bd sz ln_2 sy_2 wt qu co)) H := hP
    have hD : va_D (fun q : Nat => s.heap.size ≤ q) ((xw dB ad P sz n0 n1 n2 kn_1 fo ln_1 wt sy_1 qu ha tc) ++ (mw dI bd sz ln_2 sy_2 wt qu co)) := hD
    have hM1 : exR (isB ln) ln ((xs (i + 1))) ((xs (i + 2))) r2 (ln_2 = ln ∧ sy_2 = sy) (fun j k => ln_2 = upN ln j (ln j + 1) ∧ sy_2 = upN sy (6 * j + ln j) k) := hM1o
    obtain ⟨er, e1, g2, g3, g4, g6⟩ := op_extend hlk p3 m2 p5 hX1.1 hM1
    rw [e1] at hP hD
    refine lv_icmp_eq (tgt := 396) hx hb dL_law_165 (by decide) (fun _ => ?_) (fun z => absurd er z)
    refine lv_iinc (v := nI (i + 3)) (lv' := [(3, .int (nI (i + 3))), (0, .ref b), (1, .ref (ad 0)), (2, .ref (bd 0))]) hx hb dL_law_396 hl (k := 3) rfl (nv_inc3 _) (by decide) rfl (fun ls hl => ?_)
    refine lv_goto (tgt := 18) hx hb dL_law_399 (by decide) ?_
    exact ih (i + 3) P sz n0 n1 n2 kn_1 fo ln_1 wt sy_1 qu ha tc ln_2 co _ _ _ (by first | omega | (dsimp only; omega)) ⟨hP, hD, hS, lv_sub hl [1, 2, 3, 0] rfl, by omega, ⟨⟨p1, p2, g2, p4, g4, p6⟩, hX1.2, ⟨m1, g3, m3, g4, m5⟩, hco, g6⟩⟩
  · refine lv_tableIn (off := 138) (tgt := 170) hx hb dL_law_32 (by decide) (by decide) (by decide) (by decide) ?_
    refine lv_aload_n hx hb dL_law_170 rfl (lv_at hl 1 rfl) ?_
    refine lv_aload_n hx hb dL_law_171 rfl (lv_at hl 0 rfl) ?_
    refine lv_iload_n hx hb dL_law_172 rfl (lv_at hl 3 rfl) ?_
    refine lv_iconst (v := nI 1) hx hb dL_law_173 (by decide) ?_
    refine nv_iadd hx hb dL_law_174 ?_
    refine nv_sld hx hb hX hbl hbA hS (by omega) hL dL_law_175 ?_
    refine nc_wi (n := 1) (q0 := 0) (ci := 0) (wr := (mw dI bd sz ln sy wt qu co)) F (metX0_remove l D dB ad P sz n0 n1 n2 kn fo lx wt sy qu ha tc (xs (i + 1)) hxI hxS _) (lw_V q90 q91 q92 q24 q93) ⟨rfl, rfl⟩ (by decide +kernel) ⟨by decide, by decide⟩ hKX hP hD hS hA [0, 1, 2, 3, 4, 5, 6] [7, 8, 9, 10, 11, 12] rfl rfl rfl rfl rfl (by decide) rfl rfl rfl rfl hl rfl (Nat.le_of_ble_eq_true rfl) dL_law_176 ⟨Nat.le_refl _, Nat.le_refl _⟩ (fun r1 u H locs hX1o hP hD hS => ?_)
    obtain ⟨P_1, kn_1⟩ := u
    have hP : va_P D vwCl ((mw dI bd sz ln sy wt qu co) ++ (xw dB ad P_1 sz n0 n1 n2 kn_1 fo lx wt sy qu ha tc)) H := hP
    have hD : va_D (fun q : Nat => s.heap.size ≤ q) ((mw dI bd sz ln sy wt qu co) ++ (xw dB ad P_1 sz n0 n1 n2 kn_1 fo lx wt sy qu ha tc)) := hD
    have hX1 : rmR (fun j => P.testBit j) ((xs (i + 1))) r1 (P_1 = P ∧ kn_1 = kn) (fun j => P_1 = P &&& ((1 <<< j) ^^^ 4294967295)) ∧ xS P_1 sz lx sy qu tc kn_1 fo := hX1o
    refine lv_aload_n hx hb dL_law_179 rfl (lv_at hl 2 rfl) ?_
    refine lv_aload_n hx hb dL_law_180 rfl (lv_at hl 0 rfl) ?_
    refine lv_iload_n hx hb dL_law_181 rfl (lv_at hl 3 rfl) ?_
    refine lv_iconst (v := nI 1) hx hb dL_law_182 (by decide) ?_
    refine nv_iadd hx hb dL_law_183 ?_
    refine nv_sld hx hb hX hbl hbA hS (by omega) hL dL_law_184 ?_
    refine nc_wi (n := 1) (q0 := 0) (ci := 1) (wr := (xw dB ad P_1 sz n0 n1 n2 kn_1 fo lx wt sy qu ha tc)) F (metX1_remove l D dI bd sz ln sy wt qu co (xs (i + 1)) hmI hco _) (lw_V q231 q232 q233 q25 q234) ⟨rfl, rfl⟩ (by decide +kernel) ⟨by decide, by decide⟩ hKM hP hD hS hA [0, 1, 2, 3, 4, 5] [6, 7, 8, 9, 10, 11, 12] rfl rfl rfl rfl rfl (by decide) rfl rfl rfl rfl hl rfl (Nat.le_of_ble_eq_true rfl) dL_law_185 ⟨Nat.le_refl _, Nat.le_refl _⟩ (fun r2 u H locs hM1o hP hD hS => ?_)
    obtain ⟨ln_2, rfl⟩ : ∃ z, z = u := ⟨_, rfl⟩
    have hP : va_P D vwCl ((xw dB ad P_1 sz n0 n1 n2 kn_1 fo lx wt sy qu ha tc) ++ (mw dI bd sz ln_2 sy wt qu co)) H := hP
    have hD : va_D (fun q : Nat => s.heap.size ≤ q) ((xw dB ad P_1 sz n0 n1 n2 kn_1 fo lx wt sy qu ha tc) ++ (mw dI bd sz ln_2 sy wt qu co)) := hD
    have hM1 : rmR (isB ln) ((xs (i + 1))) r2 (ln_2 = ln) (fun j => ln_2 = upN ln j 0) := hM1o
    obtain ⟨er, g1, g3, g6⟩ := op_remove hlk p1 m2 hX1.1 hM1
    refine lv_icmp_eq (tgt := 396) hx hb dL_law_188 (by decide) (fun _ => ?_) (fun z => absurd er z)
    refine lv_iinc (v := nI (i + 3)) (lv' := [(3, .int (nI (i + 3))), (0, .ref b), (1, .ref (ad 0)), (2, .ref (bd 0))]) hx hb dL_law_396 hl (k := 3) rfl (nv_inc3 _) (by decide) rfl (fun ls hl => ?_)
    refine lv_goto (tgt := 18) hx hb dL_law_399 (by decide) ?_
    exact ih (i + 3) P_1 sz n0 n1 n2 kn_1 fo lx wt sy qu ha tc ln_2 co _ _ _ (by first | omega | (dsimp only; omega)) ⟨hP, hD, hS, lv_sub hl [1, 2, 3, 0] rfl, by omega, ⟨⟨g1, p2, p3, p4, p5, p6⟩, hX1.2, ⟨m1, g3, m3, m4, m5⟩, hco, g6⟩⟩
  · refine lv_tableIn (off := 161) (tgt := 193) hx hb dL_law_32 (by decide) (by decide) (by decide) (by decide) ?_
    refine lv_aload_n hx hb dL_law_193 rfl (lv_at hl 1 rfl) ?_
    refine lv_aload_n hx hb dL_law_194 rfl (lv_at hl 0 rfl) ?_
    refine lv_iload_n hx hb dL_law_195 rfl (lv_at hl 3 rfl) ?_
    refine lv_iconst (v := nI 1) hx hb dL_law_196 (by decide) ?_
    refine nv_iadd hx hb dL_law_197 ?_
    refine nv_sld hx hb hX hbl hbA hS (by omega) hL dL_law_198 ?_
    refine lv_aload_n hx hb dL_law_199 rfl (lv_at hl 0 rfl) ?_
    refine lv_iload_n hx hb dL_law_200 rfl (lv_at hl 3 rfl) ?_
    refine lv_iconst (v := nI 2) hx hb dL_law_201 (by decide) ?_
    refine nv_iadd hx hb dL_law_202 ?_
    refine nv_sld hx hb hX hbl hbA hS (by omega) hL dL_law_203 ?_
    refine nc_wi (n := 2) (q0 := 0) (ci := 0) (wr := (mw dI bd sz ln sy wt qu co)) F (metX0_weigh l D dB ad P sz n0 n1 n2 kn fo lx wt sy qu ha tc (xs (i + 1)) (xs (i + 2)) hxI hxS _) (lw_V q94 q95 q96 q24 q97) ⟨rfl, rfl⟩ (by decide +kernel) ⟨by decide, by decide⟩ hKX hP hD hS hA [0, 1, 2, 3, 4, 5, 6] [7, 8, 9, 10, 11, 12] rfl rfl rfl rfl rfl (by decide) rfl rfl rfl rfl hl rfl (Nat.le_of_ble_eq_true rfl) dL_law_204 ⟨Nat.le_refl _, Nat.le_refl _⟩ (fun r1 u H locs hX1o hP hD hS => ?_)
    obtain ⟨wt_1, rfl⟩ : ∃ z, z = u := ⟨_, rfl⟩
    have hP : va_P D vwCl ((mw dI bd sz ln sy wt qu co) ++ (xw dB ad P sz n0 n1 n2 kn fo lx wt_1 sy qu ha tc)) H := hP
    have hD : va_D (fun q : Nat => s.heap.size ≤ q) ((mw dI bd sz ln sy wt qu co) ++ (xw dB ad P sz n0 n1 n2 kn fo lx wt_1 sy qu ha tc)) := hD
    have hX1 : wgR (fun j => P.testBit j) ((xs (i + 1))) ((xs (i + 2))) r1 (wt_1 = wt) (fun j k => wt_1 = upN wt j k) := hX1o
    refine lv_aload_n hx hb dL_law_207 rfl (lv_at hl 2 rfl) ?_
    refine lv_aload_n hx hb dL_law_208 rfl (lv_at hl 0 rfl) ?_
    refine lv_iload_n hx hb dL_law_209 rfl (lv_at hl 3 rfl) ?_
    refine lv_iconst (v := nI 1) hx hb dL_law_210 (by decide) ?_
    refine nv_iadd hx hb dL_law_211 ?_
    refine nv_sld hx hb hX hbl hbA hS (by omega) hL dL_law_212 ?_
    refine lv_aload_n hx hb dL_law_213 rfl (lv_at hl 0 rfl) ?_
    refine lv_iload_n hx hb dL_law_214 rfl (lv_at hl 3 rfl) ?_
    refine lv_iconst (v := nI 2) hx hb dL_law_215 (by decide) ?_
    refine nv_iadd hx hb dL_law_216 ?_
    refine nv_sld hx hb hX hbl hbA hS (by omega) hL dL_law_217 ?_
    refine nc_wi (n := 2) (q0 := 0) (ci := 1) (wr := (xw dB ad P sz n0 n1 n2 kn fo lx wt_1 sy qu ha tc)) F (metX1_weigh l D dI bd sz ln sy wt qu co (xs (i + 1)) (xs (i + 2)) hmI hco _) (lw_V q235 q236 q237 q25 q238) ⟨rfl, rfl⟩ (by decide +kernel) ⟨by decide, by decide⟩ hKM hP hD hS hA [0, 1, 2, 3, 4, 5] [6, 7, 8, 9, 10, 11, 12] rfl rfl rfl rfl rfl (by decide) rfl rfl rfl rfl hl rfl (Nat.le_of_ble_eq_true rfl) dL_law_218 ⟨Nat.le_refl _, Nat.le_refl _⟩ (fun r2 u H locs hM1o hP hD hS => ?_)
    obtain ⟨wt_2, rfl⟩ : ∃ z, z = u := ⟨_, rfl⟩
    have hP : va_P D vwCl ((xw dB ad P sz n0 n1 n2 kn fo lx wt_1 sy qu ha tc) ++ (mw dI bd sz ln sy wt_2 qu co)) H := hP
    have hD : va_D (fun q : Nat => s.heap.size ≤ q) ((xw dB ad P sz n0 n1 n2 kn fo lx wt_1 sy qu ha tc) ++ (mw dI bd sz ln sy wt_2 qu co)) := hD
    have hM1 : wgR (isB ln) ((xs (i + 1))) ((xs (i + 2))) r2 (wt_2 = wt) (fun j k => wt_2 = upN wt j k) := hM1o
    obtain ⟨er, e1, g5⟩ := op_weigh hlk p4 hX1 hM1
    rw [e1] at hP hD
    refine lv_icmp_eq (tgt := 396) hx hb dL_law_221 (by decide) (fun _ => ?_) (fun z => absurd er z)
    refine lv_iinc (v := nI (i + 3)) (lv' := [(3, .int (nI (i + 3))), (0, .ref b), (1, .ref (ad 0)), (2, .ref (bd 0))]) hx hb dL_law_396 hl (k := 3) rfl (nv_inc3 _) (by decide) rfl (fun ls hl => ?_)
    refine lv_goto (tgt := 18) hx hb dL_law_399 (by decide) ?_
    exact ih (i + 3) P sz n0 n1 n2 kn fo lx wt_1 sy qu ha tc ln co _ _ _ (by first | omega | (dsimp only; omega)) ⟨hP, hD, hS, lv_sub hl [1, 2, 3, 0] rfl, by omega, ⟨⟨p1, p2, p3, g5, p5, p6⟩, hxS, ⟨m1, m2, g5, m4, m5⟩, hco, hlk⟩⟩
  · refine lv_tableIn (off := 194) (tgt := 226) hx hb dL_law_32 (by decide) (by decide) (by decide) (by decide) ?_
    refine lv_aload_n hx hb dL_law_226 rfl (lv_at hl 1 rfl) ?_
    refine nc_ro (n := 0) (q0 := 0) (ci := 0) F (metX0_words l D dB ad P sz n0 n1 n2 kn fo lx wt sy qu ha tc  ) (lw_V q98 q99 q100 q24 q101) ⟨rfl, rfl⟩ (by decide +kernel) ⟨by decide, by decide⟩ hKX (hP.sub [0, 1, 2, 3, 4, 5, 6] rfl) rfl rfl rfl rfl hl rfl (Nat.le_of_ble_eq_true rfl) dL_law_227 ⟨Nat.le_refl _, Nat.le_refl _⟩ (fun r1 hr1 => ?_)
    have hr1 : r1 = (nI P) := hr1
    subst hr1
    refine lv_aload_n hx hb dL_law_230 rfl (lv_at hl 2 rfl) ?_
    refine nc_ro (n := 0) (q0 := 0) (ci := 1) F (metX1_words l D dI bd sz ln sy wt qu co  m2) (lw_V q239 q240 q241 q25 q242) ⟨rfl, rfl⟩ (by decide +kernel) ⟨by decide, by decide⟩ hKM (hP.sub [7, 8, 9, 10, 11, 12] rfl) rfl rfl rfl rfl hl rfl (Nat.le_of_ble_eq_true rfl) dL_law_231 ⟨Nat.le_refl _, Nat.le_refl _⟩ (fun r2 hr2 => ?_)
    have hr2 : r2 = (nI (setOf (isB ln) 10)) := hr2
    subst hr2
    have er := op_words p1 hlk
    refine lv_icmp_eq (tgt := 396) hx hb dL_law_234 (by decide) (fun _ => ?_) (fun z => absurd er z)
    refine lv_iinc (v := nI (i + 3)) (lv' := [(3, .int (nI (i + 3))), (0, .ref b), (1, .ref (ad 0)), (2, .ref (bd 0))]) hx hb dL_law_396 hl (k := 3) rfl (nv_inc3 _) (by decide) rfl (fun ls hl => ?_)
    refine lv_goto (tgt := 18) hx hb dL_law_399 (by decide) ?_
    exact ih (i + 3) P sz n0 n1 n2 kn fo lx wt sy qu ha tc ln co _ _ _ (by first | omega | (dsimp only; omega)) ⟨hP, hD, hS, lv_sub hl [1, 2, 3, 0] rfl, by omega, ⟨hxI, hxS, hmI, hco, hlk⟩⟩
  · refine lv_tableIn (off := 207) (tgt := 239) hx hb dL_law_32 (by decide) (by decide) (by decide) (by decide) ?_
    refine lv_aload_n hx hb dL_law_239 rfl (lv_at hl 1 rfl) ?_
    refine lv_aload_n hx hb dL_law_240 rfl (lv_at hl 0 rfl) ?_
    refine lv_iload_n hx hb dL_law_241 rfl (lv_at hl 3 rfl) ?_
    refine lv_iconst (v := nI 1) hx hb dL_law_242 (by decide) ?_
    refine nv_iadd hx hb dL_law_243 ?_
    refine nv_sld hx hb hX hbl hbA hS (by omega) hL dL_law_244 ?_
    refine nc_wi (n := 1) (q0 := 0) (ci := 0) (wr := (mw dI bd sz ln sy wt qu co)) F (metX0_type l D dB ad P sz n0 n1 n2 kn fo lx wt sy qu ha tc (xs (i + 1)) hxI hxS _) (lw_V q102 q103 q104 q24 q105) ⟨rfl, rfl⟩ (by decide +kernel) ⟨by decide, by decide⟩ hKX hP hD hS hA [0, 1, 2, 3, 4, 5, 6] [7, 8, 9, 10, 11, 12] rfl rfl rfl rfl rfl (by decide) rfl rfl rfl rfl hl rfl (Nat.le_of_ble_eq_true rfl) dL_law_245 ⟨Nat.le_refl _, Nat.le_refl _⟩ (fun r1 u H locs hX1o hP hD hS => ?_)
    obtain ⟨sz_1, n0_1, n1_1, n2_1, kn_1, fo_1, qu_1, ha_1, tc_1⟩ := u
    have hP : va_P D vwCl ((mw dI bd sz ln sy wt qu co) ++ (xw dB ad P sz_1 n0_1 n1_1 n2_1 kn_1 fo_1 lx wt sy qu_1 ha_1 tc_1)) H := hP
    have hD : va_D (fun q : Nat => s.heap.size ≤ q) ((mw dI bd sz ln sy wt qu co) ++ (xw dB ad P sz_1 n0_1 n1_1 n2_1 kn_1 fo_1 lx wt sy qu_1 ha_1 tc_1)) := hD
    have hX1 : tyR (cnX P lx sy) sz qu ((xs (i + 1))) sz_1 qu_1 r1 ∧ xS P sz_1 lx sy qu_1 tc_1 kn_1 fo_1 := hX1o
    refine lv_aload_n hx hb dL_law_248 rfl (lv_at hl 2 rfl) ?_
    refine lv_aload_n hx hb dL_law_249 rfl (lv_at hl 0 rfl) ?_
    refine lv_iload_n hx hb dL_law_250 rfl (lv_at hl 3 rfl) ?_
    refine lv_iconst (v := nI 1) hx hb dL_law_251 (by decide) ?_
    refine nv_iadd hx hb dL_law_252 ?_
    refine nv_sld hx hb hX hbl hbA hS (by omega) hL dL_law_253 ?_
    refine nc_wi (n := 1) (q0 := 0) (ci := 1) (wr := (xw dB ad P sz_1 n0_1 n1_1 n2_1 kn_1 fo_1 lx wt sy qu_1 ha_1 tc_1)) F (metX1_type l D dI bd sz ln sy wt qu co (xs (i + 1)) hmI hco _) (lw_V q243 q244 q245 q25 q246) ⟨rfl, rfl⟩ (by decide +kernel) ⟨by decide, by decide⟩ hKM hP hD hS hA [0, 1, 2, 3, 4, 5] [6, 7, 8, 9, 10, 11, 12] rfl rfl rfl rfl rfl (by decide) rfl rfl rfl rfl hl rfl (Nat.le_of_ble_eq_true rfl) dL_law_254 ⟨Nat.le_refl _, Nat.le_refl _⟩ (fun r2 u H locs hM1o hP hD hS => ?_)
    obtain ⟨sz_2, qu_2, co_2⟩ := u
    have hP : va_P D vwCl ((xw dB ad P sz_1 n0_1 n1_1 n2_1 kn_1 fo_1 lx wt sy qu_1 ha_1 tc_1) ++ (mw dI bd sz_2 ln sy wt qu_2 co_2)) H := hP
    have hD : va_D (fun q : Nat => s.heap.size ≤ q) ((xw dB ad P sz_1 n0_1 n1_1 n2_1 kn_1 fo_1 lx wt sy qu_1 ha_1 tc_1) ++ (mw dI bd sz_2 ln sy wt qu_2 co_2)) := hD
    have hM1 : tyR (cnM ln sy) sz qu ((xs (i + 1))) sz_2 qu_2 r2 ∧ ∀ q9, co_2 q9 ≤ 100 := hM1o
    obtain ⟨er, e1, e2⟩ := op_type hlk hX1.1 hM1.1
    obtain ⟨g1, g2⟩ := ty_I hX1.1 p2 p6
    rw [e1, e2] at hP hD
    refine lv_icmp_eq (tgt := 396) hx hb dL_law_257 (by decide) (fun _ => ?_) (fun z => absurd er z)
    refine lv_iinc (v := nI (i + 3)) (lv' := [(3, .int (nI (i + 3))), (0, .ref b), (1, .ref (ad 0)), (2, .ref (bd 0))]) hx hb dL_law_396 hl (k := 3) rfl (nv_inc3 _) (by decide) rfl (fun ls hl => ?_)
    refine lv_goto (tgt := 18) hx hb dL_law_399 (by decide) ?_
    exact ih (i + 3) P sz_1 n0_1 n1_1 n2_1 kn_1 fo_1 lx wt sy qu_1 ha_1 tc_1 ln co_2 _ _ _ (by first | omega | (dsimp only; omega)) ⟨hP, hD, hS, lv_sub hl [1, 2, 3, 0] rfl, by omega, ⟨⟨p1, g1, p3, p4, p5, g2⟩, hX1.2, ⟨g1, m2, m3, m4, g2⟩, hM1.2, hlk⟩⟩
  · refine lv_tableIn (off := 230) (tgt := 262) hx hb dL_law_32 (by decide) (by decide) (by decide) (by decide) ?_
    refine lv_aload_n hx hb dL_law_262 rfl (lv_at hl 1 rfl) ?_
    refine nc_wi (n := 0) (q0 := 0) (ci := 0) (wr := (mw dI bd sz ln sy wt qu co)) F (metX0_rub l D dB ad P sz n0 n1 n2 kn fo lx wt sy qu ha tc  hxI hxS _) (lw_V q146 q147 q148 q24 q149) ⟨rfl, rfl⟩ (by decide +kernel) ⟨by decide, by decide⟩ hKX hP hD hS hA [0, 1, 2, 3, 4, 5, 6] [7, 8, 9, 10, 11, 12] rfl rfl rfl rfl rfl (by decide) rfl rfl rfl rfl hl rfl (Nat.le_of_ble_eq_true rfl) dL_law_263 ⟨Nat.le_refl _, Nat.le_refl _⟩ (fun r1 u H locs hX1o hP hD hS => ?_)
    obtain ⟨sz_1, kn_1⟩ := u
    have hP : va_P D vwCl ((mw dI bd sz ln sy wt qu co) ++ (xw dB ad P sz_1 n0 n1 n2 kn_1 fo lx wt sy qu ha tc)) H := hP
    have hD : va_D (fun q : Nat => s.heap.size ≤ q) ((mw dI bd sz ln sy wt qu co) ++ (xw dB ad P sz_1 n0 n1 n2 kn_1 fo lx wt sy qu ha tc)) := hD
    have hX1 : rbR sz qu sz_1 r1 ∧ xS P sz_1 lx sy qu tc kn_1 fo := hX1o
    refine lv_aload_n hx hb dL_law_266 rfl (lv_at hl 2 rfl) ?_
    refine nc_wi (n := 0) (q0 := 0) (ci := 1) (wr := (xw dB ad P sz_1 n0 n1 n2 kn_1 fo lx wt sy qu ha tc)) F (metX1_rub l D dI bd sz ln sy wt qu co  hmI hco _) (lw_V q271 q272 q273 q25 q274) ⟨rfl, rfl⟩ (by decide +kernel) ⟨by decide, by decide⟩ hKM hP hD hS hA [0, 1, 2, 3, 4, 5] [6, 7, 8, 9, 10, 11, 12] rfl rfl rfl rfl rfl (by decide) rfl rfl rfl rfl hl rfl (Nat.le_of_ble_eq_true rfl) dL_law_267 ⟨Nat.le_refl _, Nat.le_refl _⟩ (fun r2 u H locs hM1o hP hD hS => ?_)
    obtain ⟨sz_2, rfl⟩ : ∃ z, z = u := ⟨_, rfl⟩
    have hP : va_P D vwCl ((xw dB ad P sz_1 n0 n1 n2 kn_1 fo lx wt sy qu ha tc) ++ (mw dI bd sz_2 ln sy wt qu co)) H := hP
    have hD : va_D (fun q : Nat => s.heap.size ≤ q) ((xw dB ad P sz_1 n0 n1 n2 kn_1 fo lx wt sy qu ha tc) ++ (mw dI bd sz_2 ln sy wt qu co)) := hD
    have hM1 : rbR sz qu sz_2 r2 := hM1o
    obtain ⟨er, e1, g1⟩ := op_rub hX1.1 hM1
    have g2 : sz_1 ≤ 6 := Nat.le_trans g1 p2
    rw [e1] at hP hD
    refine lv_icmp_eq (tgt := 396) hx hb dL_law_270 (by decide) (fun _ => ?_) (fun z => absurd er z)
    refine lv_iinc (v := nI (i + 3)) (lv' := [(3, .int (nI (i + 3))), (0, .ref b), (1, .ref (ad 0)), (2, .ref (bd 0))]) hx hb dL_law_396 hl (k := 3) rfl (nv_inc3 _) (by decide) rfl (fun ls hl => ?_)
    refine lv_goto (tgt := 18) hx hb dL_law_399 (by decide) ?_
    exact ih (i + 3) P sz_1 n0 n1 n2 kn_1 fo lx wt sy qu ha tc ln co _ _ _ (by first | omega | (dsimp only; omega)) ⟨hP, hD, hS, lv_sub hl [1, 2, 3, 0] rfl, by omega, ⟨⟨p1, g2, p3, p4, p5, p6⟩, hX1.2, ⟨g2, m2, m3, m4, m5⟩, hco, hlk⟩⟩
  · refine lv_tableIn (off := 243) (tgt := 275) hx hb dL_law_32 (by decide) (by decide) (by decide) (by decide) ?_
    refine lv_aload_n hx hb dL_law_275 rfl (lv_at hl 1 rfl) ?_
    refine nc_ro (n := 0) (q0 := 0) (ci := 0) F (metX0_typed l D dB ad P sz n0 n1 n2 kn fo lx wt sy qu ha tc  ) (lw_V q150 q151 q152 q24 q153) ⟨rfl, rfl⟩ (by decide +kernel) ⟨by decide, by decide⟩ hKX (hP.sub [0, 1, 2, 3, 4, 5, 6] rfl) rfl rfl rfl rfl hl rfl (Nat.le_of_ble_eq_true rfl) dL_law_276 ⟨Nat.le_refl _, Nat.le_refl _⟩ (fun r1 hr1 => ?_)
    have hr1 : r1 = (nI sz) := hr1
    subst hr1
    refine lv_aload_n hx hb dL_law_279 rfl (lv_at hl 2 rfl) ?_
    refine nc_ro (n := 0) (q0 := 0) (ci := 1) F (metX1_typed l D dI bd sz ln sy wt qu co  ) (lw_V q275 q276 q277 q25 q278) ⟨rfl, rfl⟩ (by decide +kernel) ⟨by decide, by decide⟩ hKM (hP.sub [7, 8, 9, 10, 11, 12] rfl) rfl rfl rfl rfl hl rfl (Nat.le_of_ble_eq_true rfl) dL_law_280 ⟨Nat.le_refl _, Nat.le_refl _⟩ (fun r2 hr2 => ?_)
    have hr2 : r2 = (nI sz) := hr2
    subst hr2
    have er : nI sz = nI sz := rfl
    refine lv_icmp_eq (tgt := 396) hx hb dL_law_283 (by decide) (fun _ => ?_) (fun z => absurd er z)
    refine lv_iinc (v := nI (i + 3)) (lv' := [(3, .int (nI (i + 3))), (0, .ref b), (1, .ref (ad 0)), (2, .ref (bd 0))]) hx hb dL_law_396 hl (k := 3) rfl (nv_inc3 _) (by decide) rfl (fun ls hl => ?_)
    refine lv_goto (tgt := 18) hx hb dL_law_399 (by decide) ?_
    exact ih (i + 3) P sz n0 n1 n2 kn fo lx wt sy qu ha tc ln co _ _ _ (by first | omega | (dsimp only; omega)) ⟨hP, hD, hS, lv_sub hl [1, 2, 3, 0] rfl, by omega, ⟨hxI, hxS, hmI, hco, hlk⟩⟩
  · refine lv_tableIn (off := 256) (tgt := 288) hx hb dL_law_32 (by decide) (by decide) (by decide) (by decide) ?_
    refine lv_aload_n hx hb dL_law_288 rfl (lv_at hl 1 rfl) ?_
    refine lv_aload_n hx hb dL_law_289 rfl (lv_at hl 0 rfl) ?_
    refine lv_iload_n hx hb dL_law_290 rfl (lv_at hl 3 rfl) ?_
    refine lv_iconst (v := nI 1) hx hb dL_law_291 (by decide) ?_
    refine nv_iadd hx hb dL_law_292 ?_
    refine nv_sld hx hb hX hbl hbA hS (by omega) hL dL_law_293 ?_
    refine nc_wi (n := 1) (q0 := 0) (ci := 0) (wr := (mw dI bd sz ln sy wt qu co)) F (metX0_typos l D dB ad P sz n0 n1 n2 kn fo lx wt sy qu ha tc (xs (i + 1)) hxI hxS _) (lw_V q154 q155 q156 q24 q157) ⟨rfl, rfl⟩ (by decide +kernel) ⟨by decide, by decide⟩ hKX hP hD hS hA [0, 1, 2, 3, 4, 5, 6] [7, 8, 9, 10, 11, 12] rfl rfl rfl rfl rfl (by decide) rfl rfl rfl rfl hl rfl (Nat.le_of_ble_eq_true rfl) dL_law_294 ⟨Nat.le_refl _, Nat.le_refl _⟩ (fun r1 u H locs hX1o hP hD hS => ?_)
    obtain ⟨n0_1, n1_1, n2_1, kn_1, fo_1, ha_1, tc_1⟩ := u
    have hP : va_P D vwCl ((mw dI bd sz ln sy wt qu co) ++ (xw dB ad P sz n0_1 n1_1 n2_1 kn_1 fo_1 lx wt sy qu ha_1 tc_1)) H := hP
    have hD : va_D (fun q : Nat => s.heap.size ≤ q) ((mw dI bd sz ln sy wt qu co) ++ (xw dB ad P sz n0_1 n1_1 n2_1 kn_1 fo_1 lx wt sy qu ha_1 tc_1)) := hD
    have hX1 : r1 = (tyF (hsF P ((xs (i + 1)))) (min (edX sz lx sy qu ((xs (i + 1))).toInt.toNat) 3)) ∧ (xS P sz lx sy qu tc_1 kn_1 fo_1) := hX1o
    obtain ⟨hX1e, hX1⟩ := hX1
    subst hX1e
    refine lv_aload_n hx hb dL_law_297 rfl (lv_at hl 2 rfl) ?_
    refine lv_aload_n hx hb dL_law_298 rfl (lv_at hl 0 rfl) ?_
    refine lv_iload_n hx hb dL_law_299 rfl (lv_at hl 3 rfl) ?_
    refine lv_iconst (v := nI 1) hx hb dL_law_300 (by decide) ?_
    refine nv_iadd hx hb dL_law_301 ?_
    refine nv_sld hx hb hX hbl hbA hS (by omega) hL dL_law_302 ?_
    refine nc_wi (n := 1) (q0 := 0) (ci := 1) (wr := (xw dB ad P sz n0_1 n1_1 n2_1 kn_1 fo_1 lx wt sy qu ha_1 tc_1)) F (metX1_typos l D dI bd sz ln sy wt qu co (xs (i + 1)) hmI hco _) (lw_V q279 q280 q281 q25 q282) ⟨rfl, rfl⟩ (by decide +kernel) ⟨by decide, by decide⟩ hKM hP hD hS hA [0, 1, 2, 3, 4, 5] [6, 7, 8, 9, 10, 11, 12] rfl rfl rfl rfl rfl (by decide) rfl rfl rfl rfl hl rfl (Nat.le_of_ble_eq_true rfl) dL_law_303 ⟨Nat.le_refl _, Nat.le_refl _⟩ (fun r2 u H locs hM1o hP hD hS => ?_)
    obtain ⟨co_2, rfl⟩ : ∃ z, z = u := ⟨_, rfl⟩
    have hP : va_P D vwCl ((xw dB ad P sz n0_1 n1_1 n2_1 kn_1 fo_1 lx wt sy qu ha_1 tc_1) ++ (mw dI bd sz ln sy wt qu co_2)) H := hP
    have hD : va_D (fun q : Nat => s.heap.size ≤ q) ((xw dB ad P sz n0_1 n1_1 n2_1 kn_1 fo_1 lx wt sy qu ha_1 tc_1) ++ (mw dI bd sz ln sy wt qu co_2)) := hD
    have hM1 : r2 = (tyF (isF ln ((xs (i + 1)))) (min (edX sz ln sy qu ((xs (i + 1))).toInt.toNat) 3)) ∧ (∀ q9, co_2 q9 ≤ 100) := hM1o
    obtain ⟨hM1e, hM1⟩ := hM1
    subst hM1e
    have er := op_typos hlk sz sy qu (xs (i + 1))
    refine lv_icmp_eq (tgt := 396) hx hb dL_law_306 (by decide) (fun _ => ?_) (fun z => absurd er z)
    refine lv_iinc (v := nI (i + 3)) (lv' := [(3, .int (nI (i + 3))), (0, .ref b), (1, .ref (ad 0)), (2, .ref (bd 0))]) hx hb dL_law_396 hl (k := 3) rfl (nv_inc3 _) (by decide) rfl (fun ls hl => ?_)
    refine lv_goto (tgt := 18) hx hb dL_law_399 (by decide) ?_
    exact ih (i + 3) P sz n0_1 n1_1 n2_1 kn_1 fo_1 lx wt sy qu ha_1 tc_1 ln co_2 _ _ _ (by first | omega | (dsimp only; omega)) ⟨hP, hD, hS, lv_sub hl [1, 2, 3, 0] rfl, by omega, ⟨hxI, hX1, hmI, hM1, hlk⟩⟩
  · refine lv_tableIn (off := 279) (tgt := 311) hx hb dL_law_32 (by decide) (by decide) (by decide) (by decide) ?_
    refine lv_aload_n hx hb dL_law_311 rfl (lv_at hl 1 rfl) ?_
    refine nc_wi (n := 0) (q0 := 0) (ci := 0) (wr := (mw dI bd sz ln sy wt qu co)) F (metX0_found l D dB ad P sz n0 n1 n2 kn fo lx wt sy qu ha tc  hxI hxS _) (lw_V q158 q159 q160 q24 q161) ⟨rfl, rfl⟩ (by decide +kernel) ⟨by decide, by decide⟩ hKX hP hD hS hA [0, 1, 2, 3, 4, 5, 6] [7, 8, 9, 10, 11, 12] rfl rfl rfl rfl rfl (by decide) rfl rfl rfl rfl hl rfl (Nat.le_of_ble_eq_true rfl) dL_law_312 ⟨Nat.le_refl _, Nat.le_refl _⟩ (fun r1 u H locs hX1o hP hD hS => ?_)
    obtain ⟨n0_1, n1_1, n2_1, kn_1, fo_1, ha_1, tc_1⟩ := u
    have hP : va_P D vwCl ((mw dI bd sz ln sy wt qu co) ++ (xw dB ad P sz n0_1 n1_1 n2_1 kn_1 fo_1 lx wt sy qu ha_1 tc_1)) H := hP
    have hD : va_D (fun q : Nat => s.heap.size ≤ q) ((mw dI bd sz ln sy wt qu co) ++ (xw dB ad P sz n0_1 n1_1 n2_1 kn_1 fo_1 lx wt sy qu ha_1 tc_1)) := hD
    have hX1 : r1 = (nI (setOf (fdX P sz lx sy qu) 10)) ∧ (xS P sz lx sy qu tc_1 kn_1 fo_1) := hX1o
    obtain ⟨hX1e, hX1⟩ := hX1
    subst hX1e
    refine lv_aload_n hx hb dL_law_315 rfl (lv_at hl 2 rfl) ?_
    refine nc_wi (n := 0) (q0 := 0) (ci := 1) (wr := (xw dB ad P sz n0_1 n1_1 n2_1 kn_1 fo_1 lx wt sy qu ha_1 tc_1)) F (metX1_found l D dI bd sz ln sy wt qu co  hmI hco _) (lw_V q283 q252 q253 q25 q254) ⟨rfl, rfl⟩ (by decide +kernel) ⟨by decide, by decide⟩ hKM hP hD hS hA [0, 1, 2, 3, 4, 5] [6, 7, 8, 9, 10, 11, 12] rfl rfl rfl rfl rfl (by decide) rfl rfl rfl rfl hl rfl (Nat.le_of_ble_eq_true rfl) dL_law_316 ⟨Nat.le_refl _, Nat.le_refl _⟩ (fun r2 u H locs hM1o hP hD hS => ?_)
    obtain ⟨co_2, rfl⟩ : ∃ z, z = u := ⟨_, rfl⟩
    have hP : va_P D vwCl ((xw dB ad P sz n0_1 n1_1 n2_1 kn_1 fo_1 lx wt sy qu ha_1 tc_1) ++ (mw dI bd sz ln sy wt qu co_2)) H := hP
    have hD : va_D (fun q : Nat => s.heap.size ≤ q) ((xw dB ad P sz n0_1 n1_1 n2_1 kn_1 fo_1 lx wt sy qu ha_1 tc_1) ++ (mw dI bd sz ln sy wt qu co_2)) := hD
    have hM1 : r2 = (nI (setOf (fdM sz ln sy qu) 10)) ∧ (∀ q9, co_2 q9 ≤ 100) := hM1o
    obtain ⟨hM1e, hM1⟩ := hM1
    subst hM1e
    have er := op_found hlk sz sy qu
    refine lv_icmp_eq (tgt := 396) hx hb dL_law_319 (by decide) (fun _ => ?_) (fun z => absurd er z)
    refine lv_iinc (v := nI (i + 3)) (lv' := [(3, .int (nI (i + 3))), (0, .ref b), (1, .ref (ad 0)), (2, .ref (bd 0))]) hx hb dL_law_396 hl (k := 3) rfl (nv_inc3 _) (by decide) rfl (fun ls hl => ?_)
    refine lv_goto (tgt := 18) hx hb dL_law_399 (by decide) ?_
    exact ih (i + 3) P sz n0_1 n1_1 n2_1 kn_1 fo_1 lx wt sy qu ha_1 tc_1 ln co_2 _ _ _ (by first | omega | (dsimp only; omega)) ⟨hP, hD, hS, lv_sub hl [1, 2, 3, 0] rfl, by omega, ⟨hxI, hX1, hmI, hM1, hlk⟩⟩
  · refine lv_tableIn (off := 292) (tgt := 324) hx hb dL_law_32 (by decide) (by decide) (by decide) (by decide) ?_
    refine lv_aload_n hx hb dL_law_324 rfl (lv_at hl 1 rfl) ?_
    refine lv_aload_n hx hb dL_law_325 rfl (lv_at hl 0 rfl) ?_
    refine lv_iload_n hx hb dL_law_326 rfl (lv_at hl 3 rfl) ?_
    refine lv_iconst (v := nI 1) hx hb dL_law_327 (by decide) ?_
    refine nv_iadd hx hb dL_law_328 ?_
    refine nv_sld hx hb hX hbl hbA hS (by omega) hL dL_law_329 ?_
    refine nc_wi (n := 1) (q0 := 0) (ci := 0) (wr := (mw dI bd sz ln sy wt qu co)) F (metX0_at l D dB ad P sz n0 n1 n2 kn fo lx wt sy qu ha tc (xs (i + 1)) hxI hxS _) (lw_V q162 q163 q164 q24 q165) ⟨rfl, rfl⟩ (by decide +kernel) ⟨by decide, by decide⟩ hKX hP hD hS hA [0, 1, 2, 3, 4, 5, 6] [7, 8, 9, 10, 11, 12] rfl rfl rfl rfl rfl (by decide) rfl rfl rfl rfl hl rfl (Nat.le_of_ble_eq_true rfl) dL_law_330 ⟨Nat.le_refl _, Nat.le_refl _⟩ (fun r1 u H locs hX1o hP hD hS => ?_)
    obtain ⟨n0_1, n1_1, n2_1, kn_1, fo_1, ha_1, tc_1⟩ := u
    have hP : va_P D vwCl ((mw dI bd sz ln sy wt qu co) ++ (xw dB ad P sz n0_1 n1_1 n2_1 kn_1 fo_1 lx wt sy qu ha_1 tc_1)) H := hP
    have hD : va_D (fun q : Nat => s.heap.size ≤ q) ((mw dI bd sz ln sy wt qu co) ++ (xw dB ad P sz n0_1 n1_1 n2_1 kn_1 fo_1 lx wt sy qu ha_1 tc_1)) := hD
    have hX1 : atR (fdX P sz lx sy qu) (plX P sz lx wt sy qu) ((xs (i + 1))) r1 ∧ xS P sz lx sy qu tc_1 kn_1 fo_1 := hX1o
    refine lv_aload_n hx hb dL_law_333 rfl (lv_at hl 2 rfl) ?_
    refine lv_aload_n hx hb dL_law_334 rfl (lv_at hl 0 rfl) ?_
    refine lv_iload_n hx hb dL_law_335 rfl (lv_at hl 3 rfl) ?_
    refine lv_iconst (v := nI 1) hx hb dL_law_336 (by decide) ?_
    refine nv_iadd hx hb dL_law_337 ?_
    refine nv_sld hx hb hX hbl hbA hS (by omega) hL dL_law_338 ?_
    refine nc_wi (n := 1) (q0 := 0) (ci := 1) (wr := (xw dB ad P sz n0_1 n1_1 n2_1 kn_1 fo_1 lx wt sy qu ha_1 tc_1)) F (metX1_at l D dI bd sz ln sy wt qu co (xs (i + 1)) hmI hco _) (lw_V q284 q285 q286 q25 q287) ⟨rfl, rfl⟩ (by decide +kernel) ⟨by decide, by decide⟩ hKM hP hD hS hA [0, 1, 2, 3, 4, 5] [6, 7, 8, 9, 10, 11, 12] rfl rfl rfl rfl rfl (by decide) rfl rfl rfl rfl hl rfl (Nat.le_of_ble_eq_true rfl) dL_law_339 ⟨Nat.le_refl _, Nat.le_refl _⟩ (fun r2 u H locs hM1o hP hD hS => ?_)
    obtain ⟨co_2, rfl⟩ : ∃ z, z = u := ⟨_, rfl⟩
    have hP : va_P D vwCl ((xw dB ad P sz n0_1 n1_1 n2_1 kn_1 fo_1 lx wt sy qu ha_1 tc_1) ++ (mw dI bd sz ln sy wt qu co_2)) H := hP
    have hD : va_D (fun q : Nat => s.heap.size ≤ q) ((xw dB ad P sz n0_1 n1_1 n2_1 kn_1 fo_1 lx wt sy qu ha_1 tc_1) ++ (mw dI bd sz ln sy wt qu co_2)) := hD
    have hM1 : atR (fdM sz ln sy qu) (plM sz ln wt sy qu) ((xs (i + 1))) r2 ∧ ∀ q9, co_2 q9 ≤ 100 := hM1o
    have er := op_at hlk hX1.1 hM1.1
    refine lv_icmp_eq (tgt := 396) hx hb dL_law_342 (by decide) (fun _ => ?_) (fun z => absurd er z)
    refine lv_iinc (v := nI (i + 3)) (lv' := [(3, .int (nI (i + 3))), (0, .ref b), (1, .ref (ad 0)), (2, .ref (bd 0))]) hx hb dL_law_396 hl (k := 3) rfl (nv_inc3 _) (by decide) rfl (fun ls hl => ?_)
    refine lv_goto (tgt := 18) hx hb dL_law_399 (by decide) ?_
    exact ih (i + 3) P sz n0_1 n1_1 n2_1 kn_1 fo_1 lx wt sy qu ha_1 tc_1 ln co_2 _ _ _ (by first | omega | (dsimp only; omega)) ⟨hP, hD, hS, lv_sub hl [1, 2, 3, 0] rfl, by omega, ⟨hxI, hX1.2, hmI, hM1.2, hlk⟩⟩
  · refine lv_tableIn (off := 315) (tgt := 347) hx hb dL_law_32 (by decide) (by decide) (by decide) (by decide) ?_
    refine lv_aload_n hx hb dL_law_347 rfl (lv_at hl 1 rfl) ?_
    refine lv_aload_n hx hb dL_law_348 rfl (lv_at hl 0 rfl) ?_
    refine lv_iload_n hx hb dL_law_349 rfl (lv_at hl 3 rfl) ?_
    refine lv_iconst (v := nI 1) hx hb dL_law_350 (by decide) ?_
    refine nv_iadd hx hb dL_law_351 ?_
    refine nv_sld hx hb hX hbl hbA hS (by omega) hL dL_law_352 ?_
    refine nc_wi (n := 1) (q0 := 0) (ci := 0) (wr := (mw dI bd sz ln sy wt qu co)) F (metX0_place l D dB ad P sz n0 n1 n2 kn fo lx wt sy qu ha tc (xs (i + 1)) hxI hxS _) (lw_V q178 q167 q168 q24 q169) ⟨rfl, rfl⟩ (by decide +kernel) ⟨by decide, by decide⟩ hKX hP hD hS hA [0, 1, 2, 3, 4, 5, 6] [7, 8, 9, 10, 11, 12] rfl rfl rfl rfl rfl (by decide) rfl rfl rfl rfl hl rfl (Nat.le_of_ble_eq_true rfl) dL_law_353 ⟨Nat.le_refl _, Nat.le_refl _⟩ (fun r1 u H locs hX1o hP hD hS => ?_)
    obtain ⟨n0_1, n1_1, n2_1, kn_1, fo_1, ha_1, tc_1⟩ := u
    have hP : va_P D vwCl ((mw dI bd sz ln sy wt qu co) ++ (xw dB ad P sz n0_1 n1_1 n2_1 kn_1 fo_1 lx wt sy qu ha_1 tc_1)) H := hP
    have hD : va_D (fun q : Nat => s.heap.size ≤ q) ((mw dI bd sz ln sy wt qu co) ++ (xw dB ad P sz n0_1 n1_1 n2_1 kn_1 fo_1 lx wt sy qu ha_1 tc_1)) := hD
    have hX1 : r1 = (tyF (inF 10 (fdX P sz lx sy qu) ((xs (i + 1)))) (plX P sz lx wt sy qu ((xs (i + 1))).toInt.toNat)) ∧ (xS P sz lx sy qu tc_1 kn_1 fo_1 ∧ (kn = 1 → kn_1 = 1)) := hX1o
    obtain ⟨hX1e, hX1⟩ := hX1
    subst hX1e
    refine lv_aload_n hx hb dL_law_356 rfl (lv_at hl 2 rfl) ?_
    refine lv_aload_n hx hb dL_law_357 rfl (lv_at hl 0 rfl) ?_
    refine lv_iload_n hx hb dL_law_358 rfl (lv_at hl 3 rfl) ?_
    refine lv_iconst (v := nI 1) hx hb dL_law_359 (by decide) ?_
    refine nv_iadd hx hb dL_law_360 ?_
    refine nv_sld hx hb hX hbl hbA hS (by omega) hL dL_law_361 ?_
    refine nc_wi (n := 1) (q0 := 0) (ci := 1) (wr := (xw dB ad P sz n0_1 n1_1 n2_1 kn_1 fo_1 lx wt sy qu ha_1 tc_1)) F (metX1_place l D dI bd sz ln sy wt qu co (xs (i + 1)) hmI hco _) (lw_V q300 q289 q290 q25 q291) ⟨rfl, rfl⟩ (by decide +kernel) ⟨by decide, by decide⟩ hKM hP hD hS hA [0, 1, 2, 3, 4, 5] [6, 7, 8, 9, 10, 11, 12] rfl rfl rfl rfl rfl (by decide) rfl rfl rfl rfl hl rfl (Nat.le_of_ble_eq_true rfl) dL_law_362 ⟨Nat.le_refl _, Nat.le_refl _⟩ (fun r2 u H locs hM1o hP hD hS => ?_)
    obtain ⟨co_2, rfl⟩ : ∃ z, z = u := ⟨_, rfl⟩
    have hP : va_P D vwCl ((xw dB ad P sz n0_1 n1_1 n2_1 kn_1 fo_1 lx wt sy qu ha_1 tc_1) ++ (mw dI bd sz ln sy wt qu co_2)) H := hP
    have hD : va_D (fun q : Nat => s.heap.size ≤ q) ((xw dB ad P sz n0_1 n1_1 n2_1 kn_1 fo_1 lx wt sy qu ha_1 tc_1) ++ (mw dI bd sz ln sy wt qu co_2)) := hD
    have hM1 : r2 = (tyF (inF 10 (fdM sz ln sy qu) ((xs (i + 1)))) (plM sz ln wt sy qu ((xs (i + 1))).toInt.toNat)) ∧ (∀ q9, co_2 q9 ≤ 100) := hM1o
    obtain ⟨hM1e, hM1⟩ := hM1
    subst hM1e
    have er := op_place hlk sz wt sy qu (xs (i + 1))
    refine lv_icmp_eq (tgt := 396) hx hb dL_law_365 (by decide) (fun _ => ?_) (fun z => absurd er z)
    refine lv_iinc (v := nI (i + 3)) (lv' := [(3, .int (nI (i + 3))), (0, .ref b), (1, .ref (ad 0)), (2, .ref (bd 0))]) hx hb dL_law_396 hl (k := 3) rfl (nv_inc3 _) (by decide) rfl (fun ls hl => ?_)
    refine lv_goto (tgt := 18) hx hb dL_law_399 (by decide) ?_
    exact ih (i + 3) P sz n0_1 n1_1 n2_1 kn_1 fo_1 lx wt sy qu ha_1 tc_1 ln co_2 _ _ _ (by first | omega | (dsimp only; omega)) ⟨hP, hD, hS, lv_sub hl [1, 2, 3, 0] rfl, by omega, ⟨hxI, hX1.1, hmI, hM1, hlk⟩⟩
  · refine lv_tableIn (off := 338) (tgt := 370) hx hb dL_law_32 (by decide) (by decide) (by decide) (by decide) ?_
    refine lv_aload_n hx hb dL_law_370 rfl (lv_at hl 1 rfl) ?_
    refine nc_wi (n := 0) (q0 := 0) (ci := 0) (wr := (mw dI bd sz ln sy wt qu co)) F (metX0_hints l D dB ad P sz n0 n1 n2 kn fo lx wt sy qu ha tc  hxI hxS _) (lw_V q179 q180 q181 q24 q182) ⟨rfl, rfl⟩ (by decide +kernel) ⟨by decide, by decide⟩ hKX hP hD hS hA [0, 1, 2, 3, 4, 5, 6] [7, 8, 9, 10, 11, 12] rfl rfl rfl rfl rfl (by decide) rfl rfl rfl rfl hl rfl (Nat.le_of_ble_eq_true rfl) dL_law_371 ⟨Nat.le_refl _, Nat.le_refl _⟩ (fun r1 u H locs hX1o hP hD hS => ?_)
    obtain ⟨sz_1, n0_1, n1_1, n2_1, kn_1, fo_1, qu_1, ha_1, tc_1⟩ := u
    have hP : va_P D vwCl ((mw dI bd sz ln sy wt qu co) ++ (xw dB ad P sz_1 n0_1 n1_1 n2_1 kn_1 fo_1 lx wt sy qu_1 ha_1 tc_1)) H := hP
    have hD : va_D (fun q : Nat => s.heap.size ≤ q) ((mw dI bd sz ln sy wt qu co) ++ (xw dB ad P sz_1 n0_1 n1_1 n2_1 kn_1 fo_1 lx wt sy qu_1 ha_1 tc_1)) := hD
    have hX1 : r1 = (nI (hnF (fun q => decide (0 < cnX P lx sy (sz + 1) q)) qu sz)) ∧ (sz_1 = sz ∧ qu_1 = hnQ qu sz ∧ xS P sz_1 lx sy qu_1 tc_1 kn_1 fo_1) := hX1o
    obtain ⟨hX1e, hX1⟩ := hX1
    subst hX1e
    refine lv_aload_n hx hb dL_law_374 rfl (lv_at hl 2 rfl) ?_
    refine nc_wi (n := 0) (q0 := 0) (ci := 1) (wr := (xw dB ad P sz_1 n0_1 n1_1 n2_1 kn_1 fo_1 lx wt sy qu_1 ha_1 tc_1)) F (metX1_hints l D dI bd sz ln sy wt qu co  hmI hco _) (lw_V q301 q302 q303 q25 q304) ⟨rfl, rfl⟩ (by decide +kernel) ⟨by decide, by decide⟩ hKM hP hD hS hA [0, 1, 2, 3, 4, 5] [6, 7, 8, 9, 10, 11, 12] rfl rfl rfl rfl rfl (by decide) rfl rfl rfl rfl hl rfl (Nat.le_of_ble_eq_true rfl) dL_law_375 ⟨Nat.le_refl _, Nat.le_refl _⟩ (fun r2 u H locs hM1o hP hD hS => ?_)
    obtain ⟨sz_2, qu_2, co_2⟩ := u
    have hP : va_P D vwCl ((xw dB ad P sz_1 n0_1 n1_1 n2_1 kn_1 fo_1 lx wt sy qu_1 ha_1 tc_1) ++ (mw dI bd sz_2 ln sy wt qu_2 co_2)) H := hP
    have hD : va_D (fun q : Nat => s.heap.size ≤ q) ((xw dB ad P sz_1 n0_1 n1_1 n2_1 kn_1 fo_1 lx wt sy qu_1 ha_1 tc_1) ++ (mw dI bd sz_2 ln sy wt qu_2 co_2)) := hD
    have hM1 : r2 = (nI (hnF (fun q => decide (setOf (fdM (sz + 1) ln sy q) 10 ≠ 0)) qu sz)) ∧ (sz_2 = sz ∧ qu_2 = hnQ qu sz ∧ ∀ q9, co_2 q9 ≤ 100) := hM1o
    obtain ⟨hM1e, hM1⟩ := hM1
    subst hM1e
    have er := op_hints hlk sz sy qu
    obtain ⟨z1, z2, hxS1⟩ := hX1
    obtain ⟨z3, z4, hco1⟩ := hM1
    rw [show sz_2 = sz_1 from z3.trans z1.symm, show qu_2 = qu_1 from z4.trans z2.symm] at hP hD
    have g1 : sz_1 ≤ 6 := by rw [z1]; exact p2
    have g2 : ∀ j, qu_1 j < 4 := by rw [z2]; exact hnQ_lt p6
    refine lv_icmp_eq (tgt := 396) hx hb dL_law_378 (by decide) (fun _ => ?_) (fun z => absurd er z)
    refine lv_iinc (v := nI (i + 3)) (lv' := [(3, .int (nI (i + 3))), (0, .ref b), (1, .ref (ad 0)), (2, .ref (bd 0))]) hx hb dL_law_396 hl (k := 3) rfl (nv_inc3 _) (by decide) rfl (fun ls hl => ?_)
    refine lv_goto (tgt := 18) hx hb dL_law_399 (by decide) ?_
    exact ih (i + 3) P sz_1 n0_1 n1_1 n2_1 kn_1 fo_1 lx wt sy qu_1 ha_1 tc_1 ln co_2 _ _ _ (by first | omega | (dsimp only; omega)) ⟨hP, hD, hS, lv_sub hl [1, 2, 3, 0] rfl, by omega, ⟨⟨p1, g1, p3, p4, p5, g2⟩, hxS1, ⟨g1, m2, m3, m4, g2⟩, hco1, hlk⟩⟩
  · refine lv_tableIn (off := 351) (tgt := 383) hx hb dL_law_32 (by decide) (by decide) (by decide) (by decide) ?_
    refine lv_aload_n hx hb dL_law_383 rfl (lv_at hl 1 rfl) ?_
    refine nc_wi (n := 0) (q0 := 0) (ci := 0) (wr := (mw dI bd sz ln sy wt qu co)) F (metX0_common l D dB ad P sz n0 n1 n2 kn fo lx wt sy qu ha tc  hxI hxS _) (lw_V q185 q186 q187 q24 q188) ⟨rfl, rfl⟩ (by decide +kernel) ⟨by decide, by decide⟩ hKX hP hD hS hA [0, 1, 2, 3, 4, 5, 6] [7, 8, 9, 10, 11, 12] rfl rfl rfl rfl rfl (by decide) rfl rfl rfl rfl hl rfl (Nat.le_of_ble_eq_true rfl) dL_law_384 ⟨Nat.le_refl _, Nat.le_refl _⟩ (fun r1 u H locs hX1o hP hD hS => ?_)
    obtain ⟨n0_1, n1_1, n2_1, kn_1, fo_1, ha_1, tc_1⟩ := u
    have hP : va_P D vwCl ((mw dI bd sz ln sy wt qu co) ++ (xw dB ad P sz n0_1 n1_1 n2_1 kn_1 fo_1 lx wt sy qu ha_1 tc_1)) H := hP
    have hD : va_D (fun q : Nat => s.heap.size ≤ q) ((mw dI bd sz ln sy wt qu co) ++ (xw dB ad P sz n0_1 n1_1 n2_1 kn_1 fo_1 lx wt sy qu ha_1 tc_1)) := hD
    have hX1 : (∃ n, r1 = nI n ∧ cmR 10 (fdX P sz lx sy qu) lx sy n) ∧ xS P sz lx sy qu tc_1 kn_1 fo_1 := hX1o
    refine lv_aload_n hx hb dL_law_387 rfl (lv_at hl 2 rfl) ?_
    refine nc_wi (n := 0) (q0 := 0) (ci := 1) (wr := (xw dB ad P sz n0_1 n1_1 n2_1 kn_1 fo_1 lx wt sy qu ha_1 tc_1)) F (metX1_common l D dI bd sz ln sy wt qu co  hmI hco _) (lw_V q307 q308 q309 q25 q310) ⟨rfl, rfl⟩ (by decide +kernel) ⟨by decide, by decide⟩ hKM hP hD hS hA [0, 1, 2, 3, 4, 5] [6, 7, 8, 9, 10, 11, 12] rfl rfl rfl rfl rfl (by decide) rfl rfl rfl rfl hl rfl (Nat.le_of_ble_eq_true rfl) dL_law_388 ⟨Nat.le_refl _, Nat.le_refl _⟩ (fun r2 u H locs hM1o hP hD hS => ?_)
    obtain ⟨co_2, rfl⟩ : ∃ z, z = u := ⟨_, rfl⟩
    have hP : va_P D vwCl ((xw dB ad P sz n0_1 n1_1 n2_1 kn_1 fo_1 lx wt sy qu ha_1 tc_1) ++ (mw dI bd sz ln sy wt qu co_2)) H := hP
    have hD : va_D (fun q : Nat => s.heap.size ≤ q) ((xw dB ad P sz n0_1 n1_1 n2_1 kn_1 fo_1 lx wt sy qu ha_1 tc_1) ++ (mw dI bd sz ln sy wt qu co_2)) := hD
    have hM1 : (∃ n, r2 = nI n ∧ cmR 10 (fdM sz ln sy qu) ln sy n) ∧ ∀ q9, co_2 q9 ≤ 100 := hM1o
    have er := op_common hlk hX1.1 hM1.1
    refine lv_icmp_eq (tgt := 396) hx hb dL_law_391 (by decide) (fun _ => ?_) (fun z => absurd er z)
    refine lv_iinc (v := nI (i + 3)) (lv' := [(3, .int (nI (i + 3))), (0, .ref b), (1, .ref (ad 0)), (2, .ref (bd 0))]) hx hb dL_law_396 hl (k := 3) rfl (nv_inc3 _) (by decide) rfl (fun ls hl => ?_)
    refine lv_goto (tgt := 18) hx hb dL_law_399 (by decide) ?_
    exact ih (i + 3) P sz n0_1 n1_1 n2_1 kn_1 fo_1 lx wt sy qu ha_1 tc_1 ln co_2 _ _ _ (by first | omega | (dsimp only; omega)) ⟨hP, hD, hS, lv_sub hl [1, 2, 3, 0] rfl, by omega, ⟨hxI, hX1.2, hmI, hM1.2, hlk⟩⟩
  · refine lv_tableOut (tgt := 396) hx hb dL_law_32 (Or.inr (by rw [nI_toInt (by omega)]; omega)) (by decide) ?_
    refine lv_iinc (v := nI (i + 3)) (lv' := [(3, .int (nI (i + 3))), (0, .ref b), (1, .ref (ad 0)), (2, .ref (bd 0))]) hx hb dL_law_396 hl (k := 3) rfl (nv_inc3 _) (by decide) rfl (fun ls hl => ?_)
    refine lv_goto (tgt := 18) hx hb dL_law_399 (by decide) ?_
    exact ih (i + 3) P sz n0 n1 n2 kn fo lx wt sy qu ha tc ln co _ _ _ (by first | omega | (dsimp only; omega)) ⟨hP, hD, hS, lv_sub hl [1, 2, 3, 0] rfl, by omega, ⟨hxI, hxS, hmI, hco, hlk⟩⟩
end
section
set_option maxRecDepth 100000
theorem lk_0 : lkI 0 0 0 0 zN zN zN zN zN zN zN := by
  refine ⟨⟨by decide, by decide, fun _ => Nat.zero_le _, fun _ => Nat.zero_le _, fun _ => Nat.succ_pos _, fun _ => Nat.succ_pos _⟩, xS_kn (fun _ => Nat.zero_le _), ⟨by decide, fun _ => Nat.zero_le _, fun _ => Nat.zero_le _, fun _ => Nat.succ_pos _, fun _ => Nat.succ_pos _⟩, fun _ => Nat.zero_le _, fun w _ => ?_, fun w _ h => ?_⟩
  · rw [Nat.zero_testBit]; rfl
  · exact absurd h (by rw [Nat.zero_testBit]; decide)
set_option maxHeartbeats 16000000 in
/-- THE LAW, from its entry -/
theorem whole_start {p : Program} {e : Env} {s : State} {m : MethodId} {below : List Frame} {meth : Method} {c : Code} (l : Launch) {b L : Nat} {xs : Nat → Int32} (hL : L ≤ 192) (C0 : lw_At p s m meth c b L xs) : W p l e room_1 s m #[Value.ref b] below meth c s.heap [] 0 0 (lw_Z below #[Value.ref b] s) (entryFrame m ([Value.ref b] : List Value).toArray 4) := by
  obtain ⟨hx, hb, hr, hml, hown, hts0, hX, hbl, hlocks, hgv⟩ := id C0
  have hA : ∀ q : Nat, s.heap.size ≤ q → (fun q : Nat => s.heap.size ≤ q) q := fun _ h => h
  have hts : ∀ w ∈ lw_all, w.before #[Value.ref b] s = true := fun w h => hts0 w (lw_all_tbl h)
  have F : CallFix p m c code 4 s #[Value.ref b] lw_all R_law := ⟨hx, hb, hml, hown, hts⟩
  obtain ⟨c0, iS0, hKn0⟩ := u_known (C := RX0) (T := TX0) (N := 13) (n := 13) hts in_X0 (hts _ q27)
  obtain ⟨c1, iS1, hKn1⟩ := u_known (C := RX1) (T := TX1) (N := 6) (n := 6) hts in_X1 (hts _ q194)
  obtain ⟨dC, dJ, hKc⟩ : ∃ (dC : Nat → ClassId) (dJ : Nat → Nat → Nat), ∀ (k : Nat) (q : vw_C), vwCl[k]? = some q → u_Kn s q.1 q.2.1 q.2.2 (dC k) (dJ k) := by
    refine ⟨fun k => if k = 0 then c0 else c1, fun k => if k = 0 then iS0 else iS1, ?_⟩
    intro k q hq
    match k, hq with
    | 0, hq => cases hq; exact hKn0
    | 1, hq => cases hq; exact hKn1
    | k + 2, hq => simp [vwCl] at hq
  have hS : va_S (fun q : Nat => s.heap.size ≤ q) s.heap s.heap [] := va_S.rf
  have hK : va_K (dC, dJ) vwCl [] s := ⟨hKc, fun k q h => by simp at h⟩
  have hP : va_P (dC, dJ) vwCl [] s.heap := fun k q h => by simp at h
  have hD : va_D (fun q : Nat => s.heap.size ≤ q) [] := ⟨fun i j p q h => by simp at h, fun k q h => by simp at h⟩
  generalize (dC, dJ) = D at hK hP
  have hl := lv_entry ([.ref b]) (n := 4) (Nat.le_of_ble_eq_true rfl)
  rw [lg_entry_eq]
  generalize (lg_sl ([.ref b]) ++ List.replicate (4 - (lg_sl ([.ref b])).length) Slot.unset).toArray = ls at hl ⊢
  have hl : lv_has ls 4 [(0, .ref b)] := hl
  refine va_new (D := D) (ci := 0) (fs := fX0) (C := RX0) (T := TX0) (N := 13) hx hb hts in_X0 tyX0 tyX0_ok hown (hts _ q26) (hts _ q27) (hts _ q24) hK hP hD hS hA rfl (fun j hj => by rcases (show j = 0 ∨ j = 1 ∨ j = 2 ∨ j = 3 ∨ j = 4 ∨ j = 5 ∨ j = 6 ∨ j = 7 ∨ j = 8 ∨ j = 9 ∨ j = 10 ∨ j = 11 ∨ j = 12 by omega) with rfl | rfl | rfl | rfl | rfl | rfl | rfl | rfl | rfl | rfl | rfl | rfl | rfl <;> rfl) (Nat.le_of_ble_eq_true rfl) (Nat.le_of_ble_eq_true rfl) dL_law_0 (fun q0 H hP hD hS => ?_)
  have hP : va_P D vwCl [(q0, .inr (0, fX0))] H := hP
  have hD : va_D (fun q : Nat => s.heap.size ≤ q) [(q0, .inr (0, fX0))] := hD
  refine W.widen (k := 1) (n := 13) (Nat.le_of_ble_eq_true rfl) (Nat.le_of_ble_eq_true rfl) ?_
  refine lv_dup hx hb dL_law_3 rfl ?_
  have hPc := hP.sub (ws' := [(q0, .inr (0, fX0))]) [0] rfl
  have hDc := hD.sub (ws' := [(q0, .inr (0, fX0))]) [0] (by decide) rfl
  have hKc := hK.sub (tys' := []) [] rfl
  have hFc := va_free (wc := [(q0, .inr (0, fX0))]) hD hS hA [0] rfl
  refine va_callv (va_runI (As := []) (rest := [.ref q0]) F (metX0_init l D q0 H.size) (cwI 0 hts (lw_meth q30) rfl rfl rfl (hts _ q24) (hts _ q28) (hts _ q29) rfl (by decide +kernel) ⟨Nat.le_of_ble_eq_true rfl, Nat.le_of_ble_eq_true rfl⟩) ⟨fun a U g mk q => by obtain ⟨q0, q1, qP, qK, qD⟩ := q; exact ⟨q0, q1, qP, va_K.moved (u := U) (U := U.calling g mk a) (Vm.Alike.refl U.vm) qK, qD⟩, fun U hU hW => ⟨rfl, by rw [hU], by rw [hU]; exact hPc, va_K.moved hW.alike hKc, hDc.weaken (fun _ _ _ _ => trivial)⟩⟩ rfl rfl hl.1 rfl (lv_room (Nat.le_of_ble_eq_true rfl)) dL_law_4 ⟨Nat.le_of_ble_eq_true rfl, Nat.le_of_ble_eq_true rfl⟩) hS (fun q _ h => hFc q h) hFc (fun u t H1 locs ht hvm hw hB hz1 hk1 hS => ?_)
  obtain ⟨dB, ad⟩ := u
  have hw : ad 0 = q0 := hw
  obtain ⟨hP1, hK1, hD1⟩ := hB
  rw [ht] at hP1
  have hK1 : va_K D vwCl [(dB, .byte)] s := va_K.moved hvm.symm hK1
  obtain ⟨hP, hD⟩ := va_join (wr := []) (w1 := (xw dB ad 0 0 0 0 0 0 0 zN zN zN zN zN zN)) hP hD [0] [] rfl rfl (by decide) (by decide) hk1 hFc hP1 hD1
  have hK := hK1
  generalize H1 = H at hP hS ⊢
  have hP : va_P D vwCl (xw dB ad 0 0 0 0 0 0 0 zN zN zN zN zN zN) H := hP
  have hD : va_D (fun q : Nat => s.heap.size ≤ q) (xw dB ad 0 0 0 0 0 0 0 zN zN zN zN zN zN) := hD
  refine W.widen (k := 7) (n := 113) (Nat.le_of_ble_eq_true rfl) (Nat.le_of_ble_eq_true rfl) ?_
  rw [← hw]
  refine lv_astore_n (lv' := [(1, .ref (ad 0)), (0, .ref b)]) hx hb dL_law_7 rfl hl (by decide) rfl (fun ls hl => ?_)
  refine va_new (D := D) (ci := 1) (fs := fX1) (C := RX1) (T := TX1) (N := 6) hx hb hts in_X1 tyX1 tyX1_ok hown (hts _ q193) (hts _ q194) (hts _ q25) hK hP hD hS hA rfl (fun j hj => by rcases (show j = 0 ∨ j = 1 ∨ j = 2 ∨ j = 3 ∨ j = 4 ∨ j = 5 by omega) with rfl | rfl | rfl | rfl | rfl | rfl <;> rfl) (Nat.le_of_ble_eq_true rfl) (Nat.le_of_ble_eq_true rfl) dL_law_8 (fun q1 H hP hD hS => ?_)
  have hP : va_P D vwCl ((xw dB ad 0 0 0 0 0 0 0 zN zN zN zN zN zN) ++ [(q1, .inr (1, fX1))]) H := hP
  have hD : va_D (fun q : Nat => s.heap.size ≤ q) ((xw dB ad 0 0 0 0 0 0 0 zN zN zN zN zN zN) ++ [(q1, .inr (1, fX1))]) := hD
  refine W.widen (k := 8) (n := 119) (Nat.le_of_ble_eq_true rfl) (Nat.le_of_ble_eq_true rfl) ?_
  refine lv_dup hx hb dL_law_11 rfl ?_
  have hPc := hP.sub (ws' := [(q1, .inr (1, fX1))]) [7] rfl
  have hDc := hD.sub (ws' := [(q1, .inr (1, fX1))]) [7] (by decide) rfl
  have hKc := hK.sub (tys' := []) [] rfl
  have hFc := va_free (wc := [(q1, .inr (1, fX1))]) hD hS hA [7] rfl
  refine va_callv (va_runI (As := []) (rest := [.ref q1]) F (metX1_init l D q1 H.size) (cwI 0 hts (lw_meth q197) rfl rfl rfl (hts _ q25) (hts _ q195) (hts _ q196) rfl (by decide +kernel) ⟨Nat.le_of_ble_eq_true rfl, Nat.le_of_ble_eq_true rfl⟩) ⟨fun a U g mk q => by obtain ⟨q0, q1, qP, qK, qD⟩ := q; exact ⟨q0, q1, qP, va_K.moved (u := U) (U := U.calling g mk a) (Vm.Alike.refl U.vm) qK, qD⟩, fun U hU hW => ⟨rfl, by rw [hU], by rw [hU]; exact hPc, va_K.moved hW.alike hKc, hDc.weaken (fun _ _ _ _ => trivial)⟩⟩ rfl rfl hl.1 rfl (lv_room (Nat.le_of_ble_eq_true rfl)) dL_law_12 ⟨Nat.le_of_ble_eq_true rfl, Nat.le_of_ble_eq_true rfl⟩) hS (fun q _ h => hFc q h) hFc (fun u t H1 locs ht hvm hw hB hz1 hk1 hS => ?_)
  obtain ⟨dI, bd⟩ := u
  have hw2 : bd 0 = q1 := hw
  obtain ⟨hP1, hK1, hD1⟩ := hB
  rw [ht] at hP1
  have hK1 : va_K D vwCl [(dI, .int)] s := va_K.moved hvm.symm hK1
  obtain ⟨hP, hD⟩ := va_join (wr := (xw dB ad 0 0 0 0 0 0 0 zN zN zN zN zN zN)) (w1 := (mw dI bd 0 zN zN zN zN zN)) hP hD [7] [0, 1, 2, 3, 4, 5, 6] rfl rfl (by decide) (by decide) hk1 hFc hP1 hD1
  have hK : va_K D vwCl [(dB, .byte), (dI, .int)] s := hK.app hK1
  generalize H1 = H at hP hS ⊢
  have hP : va_P D vwCl ((xw dB ad 0 0 0 0 0 0 0 zN zN zN zN zN zN) ++ (mw dI bd 0 zN zN zN zN zN)) H := hP
  have hD : va_D (fun q : Nat => s.heap.size ≤ q) ((xw dB ad 0 0 0 0 0 0 0 zN zN zN zN zN zN) ++ (mw dI bd 0 zN zN zN zN zN)) := hD
  refine W.widen (k := 600000) (n := 7290000) (Nat.le_of_ble_eq_true rfl) (Nat.le_of_ble_eq_true rfl) ?_
  rw [← hw2]
  refine lv_astore_n (lv' := [(2, .ref (bd 0)), (1, .ref (ad 0)), (0, .ref b)]) hx hb dL_law_15 rfl hl (by decide) rfl (fun ls hl => ?_)
  refine lv_iconst (v := nI 0) hx hb dL_law_16 (by decide) ?_
  refine lv_istore_n (lv' := [(3, .int (nI 0)), (2, .ref (bd 0)), (1, .ref (ad 0)), (0, .ref b)]) hx hb dL_law_17 rfl hl (by decide) rfl (fun ls hl => ?_)
  exact law_loop l hL C0 D dB dI ad bd hK 0 0 0 0 0 0 0 0 zN zN zN zN zN zN zN zN _ _ _ (Nat.zero_le _) lk_0 hP hD hS (lv_sub hl [3, 2, 1, 0] rfl)
end
section
set_option maxHeartbeats 4000000 in
theorem lw_walk (l : Launch) (b : Addr) (xs : List Int32) : MetFree l x (headSpec (Jvm.Cond.code x code maxLocals ret :: tables_1) room_1) (lw_P b xs) (fun _ _ _ _ _ => True) lw_Q := by
  refine MetFree.of_bodyS (code := code) (maxLocals := maxLocals) (ret := ret) (by decide) ?_ ?_
  · intro args s m h hn
    obtain ⟨meth, c, h1, h2, h3, h4, h5, h6, -, -⟩ := Cond.code_spec hn (atoms_spec (ws := Jvm.Cond.code x code maxLocals ret :: tables_1) h _ List.mem_cons_self)
    exact ⟨meth, c, h1, h2, h3, h4, h5, h6⟩
  · intro p e s m args below meth c s₁ B hml0 hP _
    obtain ⟨rfl, hx, hbd, hgv⟩ := hP
    obtain ⟨scr, harrAt, hlist, hof, hsmall⟩ := hx
    obtain ⟨hcb, hkn, -, -⟩ := State.arrayAt?_spec harrAt
    have hown : s.vm.findClass R_law = some m.cls := findClass_of_methodNamed B.named
    have hts0 : ∀ c ∈ (Jvm.Cond.code x code maxLocals ret :: tables_1), c.before #[Value.ref b] s = true := atoms_spec (ws := Jvm.Cond.code x code maxLocals ret :: tables_1) B.pre
    have hts : ∀ w ∈ lw_tbl, w.before #[Value.ref b] s = true := k2_hts_sels lw_privs (fun w hw => hts0 w (List.mem_cons_of_mem _ hw)) lw_privs_ok
    have hml : c.maxLocals = 4 := B.maxLocals_eq (hts0 _ List.mem_cons_self)
    have X₀ : Stand p l e room_1 s m #[Value.ref b] below meth c s₁ [] 0 0 := Stand.of_body B
    have hh0 : s₁.heap = s.heap := by rw [B.state]; rfl
    have hsz : scr.slots.size = xs.length := by rw [← Array.length_toList, hlist, List.length_map]
    have hval : ∀ j : Nat, j < xs.length → scr.slots[j]? = some (.int (xs.getD j 0)) := fun j hj => by
      rw [← Array.getElem?_toList, hlist]
      simp [hj]
    have hbl : b < s.heap.size := (Array.getElem?_eq_some_iff.mp hcb).1
    have hX : va_X b xs.length (fun j => xs.getD j 0) s s.heap := ⟨scr, hcb, hof, hkn, hsz, hval⟩
    have K : W p l e room_1 s m #[Value.ref b] below meth c s₁.heap [] 0 0 (lw_Z below #[Value.ref b] s) (entryFrame m ([Value.ref b] : List Value).toArray 4) := by
      rw [hh0]
      exact whole_start l hbd ⟨B.exec, B.bytes, B.returns, hml, hown, hts, hX, hbl, B.notSynchronized, hgv⟩
    obtain ⟨t, a1, o, b1, b2, b3⟩ := K s₁ rfl X₀
    exact ⟨t, o, a1, b1, b2, b3⟩
theorem lw_pre_spec {args : Array Value} {s : State} (h : (Jvm.Cond.and given_1 narrow_1).before args s = true) (hr : rest_1_c.before args s = true) : ∃ (b : Addr) (xs : List Int32), lw_P b xs args s := by
  have hs := flat_of_before _ h
  have hq := flat_of_before _ hr
  have hc : (Cond.count 1).before args s = true := hs _ (by decide +kernel)
  have harr : (Cond.arrayOf (.arg 0) .int).before args s = true := hs _ (by decide +kernel)
  have hle : (Cond.le (.length (.arg 0)) (.int 192)).before args s = true := hs _ (by decide +kernel)
  have hlen : (Cond.isInt (.length (.arg 0))).before args s = true := hq _ (by decide +kernel)
  have hall : (Cond.all (.arg 0) (.isInt (.elem (.arg 0) (.index 0)))).before args s = true := hq _ (by decide +kernel)
  obtain ⟨b, xs, hb, hx⟩ := State.ints_of_pre rfl harr hlen hall
  have hsm : xs.length < 2 ^ 31 := hx.choose_spec.2.2.2
  have hev : (Term.length (.arg 0)).eval args s none [] s = some (.int xs.length.toInt32) := hx.length_eval hb
  have hv := Cond.le_ints hev (show (Term.int 192).eval args s none [] s = some (.int 192) from rfl)
  have hd : xs.length.toInt32 ≤ 192 := by
    simpa [Cond.before, Cond.holds, hv] using hle
  have hN : xs.length ≤ 192 := (Int32.ofNat_le_ofNat hsm (by decide)).mp (show Int32.ofNat xs.length ≤ Int32.ofNat 192 from hd)
  exact ⟨b, xs, Cond.one_arg hc (show args[0]? = some (.ref b) from hb), hx, hN, h⟩
theorem lw_comes (l : Launch) : Comes l x (Jvm.Cond.code x code maxLocals ret :: tables_1) room_1 (fun tb e args s => Calls_1 tb e args s ∧ rest_1 tb e args s ∧ Pre_1 tb e args s)
    (fun _ _ args s o t => lw_Q args s o t) := by
  intro p e ha hc hk s m args below hf hfit hheap happ hpre
  obtain ⟨b, xs, hP⟩ := lw_pre_spec hpre.2.2 hpre.2.1
  obtain ⟨k, o, h1, h2, h3, hQ⟩ := lw_walk l b xs p e ha hc hk s m args below hf ((Spec.applies_iff_loose hf).mp happ).1 hP trivial
  exact ⟨k, o, h1, h2, h3, hQ⟩
theorem lw_frame {s t : State} {o : Outcome} {args : Array Value} (h : Framed s o t [] 600000 7290000) :
    Framed s o t (fieldLocs frame_1_writes args s ++ arrayLocs frame_1_arrays args s ++ staticLocs frame_1_statics s) 600000 7290000 := h
theorem lw_limb (L : Cond) (hL : ∀ (args : Array Value) (s t : State), L.after args s (.returned (some (.int 1))) t = true) :
    ArmFor flags0 classFile x code maxLocals ret World_1 tables_1 room_1 Calls_1 rest_1 Pre_1
      (fun tb e a s o t => postC L tb e a s o t ∧ Framed s o t (fieldLocs frame_1_writes a s ++ arrayLocs frame_1_arrays a s ++ staticLocs frame_1_statics s) 600000 7290000) := by
  intro l _ _ _ p e ha hc hk s m args below hf hfit hheap happ hpre
  obtain ⟨k, o, h1, h2, h3, rfl, hF⟩ := lw_comes l p e ha hc hk s m args below hf hfit hheap happ hpre
  exact ⟨k, _, h1, h2, h3, hL args s _, lw_frame hF⟩
theorem i_vc : Claimed_1_1 ∧ Claimed_1_2 := ⟨lw_limb limb_1_1 (fun args s t => by simp [limb_1_1, Cond.after, Cond.holds, Cond.value]), lw_limb limb_1_2 (fun args s t => Cond.after_iff.mpr (by
  first | (rw [show limb_1_2 = Cond.eq .result (.int 1) from rfl, Cond.eq_ints (x := 1) (y := 1) rfl rfl]; simp; done) | (simp [limb_1_2, Cond.value, Term.eval]; done)))⟩
end
