section
-- ===== PART A: goes FIRST, ahead of the names: the tables' words, and 'selects' of the private methods out of them =====
/-- a private method of a class that the tables say can be made, by its rows of tables_1 -/
def lw_okq (q : MethodName × Nat) : Prop := (q.1.cls ≠ "java/lang/invoke/MethodHandle" ∧ q.1.cls ≠ "java/lang/invoke/VarHandle") ∧ Cond.instantiable q.1.cls q.2 ∈ tables_1 ∧ Cond.privateMethod q.1 ∈ tables_1 ∧ Cond.instanceMethod q.1 ∈ tables_1
set_option maxRecDepth 100000
theorem lw_t1 {w : Cond} (h : w ∈ tables_1_1) : w ∈ tables_1 := List.mem_append_left _ h
theorem lw_t2 {w : Cond} (h : w ∈ tables_1_2) : w ∈ tables_1 := List.mem_append_right _ h
theorem lw_p0 : lw_okq (⟨"GraphPolynomials", "startPoints", "()I"⟩, 11) := ⟨⟨by decide +kernel, by decide +kernel⟩, lw_t1 (List.mem_of_getElem? (i := 4) rfl), lw_t1 (List.mem_of_getElem? (i := 70) rfl), lw_t1 (List.mem_of_getElem? (i := 71) rfl)⟩
theorem lw_p1 : lw_okq (⟨"GraphPolynomials", "drawnTogether", "(II)I"⟩, 11) := ⟨⟨by decide +kernel, by decide +kernel⟩, lw_t1 (List.mem_of_getElem? (i := 4) rfl), lw_t1 (List.mem_of_getElem? (i := 74) rfl), lw_t1 (List.mem_of_getElem? (i := 75) rfl)⟩
theorem lw_p2 : lw_okq (⟨"GraphPolynomials", "pointOf", "(II)I"⟩, 11) := ⟨⟨by decide +kernel, by decide +kernel⟩, lw_t1 (List.mem_of_getElem? (i := 4) rfl), lw_t1 (List.mem_of_getElem? (i := 78) rfl), lw_t1 (List.mem_of_getElem? (i := 79) rfl)⟩
theorem lw_p3 : lw_okq (⟨"GraphPolynomials", "joined", "(III)I"⟩, 11) := ⟨⟨by decide +kernel, by decide +kernel⟩, lw_t1 (List.mem_of_getElem? (i := 4) rfl), lw_t1 (List.mem_of_getElem? (i := 82) rfl), lw_t1 (List.mem_of_getElem? (i := 83) rfl)⟩
theorem lw_p4 : lw_okq (⟨"GraphPolynomials", "findPolynomial", "()V"⟩, 11) := ⟨⟨by decide +kernel, by decide +kernel⟩, lw_t1 (List.mem_of_getElem? (i := 4) rfl), lw_t1 (List.mem_of_getElem? (i := 90) rfl), lw_t1 (List.mem_of_getElem? (i := 91) rfl)⟩
theorem lw_p5 : lw_okq (⟨"GraphPolynomials", "push", "(IIII)V"⟩, 11) := ⟨⟨by decide +kernel, by decide +kernel⟩, lw_t1 (List.mem_of_getElem? (i := 4) rfl), lw_t1 (List.mem_of_getElem? (i := 94) rfl), lw_t1 (List.mem_of_getElem? (i := 95) rfl)⟩
theorem lw_p6 : lw_okq (⟨"GraphPolynomials", "workOff", "(IIII)V"⟩, 11) := ⟨⟨by decide +kernel, by decide +kernel⟩, lw_t1 (List.mem_of_getElem? (i := 4) rfl), lw_t1 (List.mem_of_getElem? (i := 98) rfl), lw_t1 (List.mem_of_getElem? (i := 99) rfl)⟩
theorem lw_p7 : lw_okq (⟨"GraphPolynomials", "valueAt", "(II)I"⟩, 11) := ⟨⟨by decide +kernel, by decide +kernel⟩, lw_t1 (List.mem_of_getElem? (i := 4) rfl), lw_t1 (List.mem_of_getElem? (i := 106) rfl), lw_t1 (List.mem_of_getElem? (i := 107) rfl)⟩
theorem lw_p8 : lw_okq (⟨"GraphPolynomialsModel", "isPoint", "(I)Z"⟩, 7) := ⟨⟨by decide +kernel, by decide +kernel⟩, lw_t1 (List.mem_of_getElem? (i := 134) rfl), lw_t1 (List.mem_of_getElem? (i := 167) rfl), lw_t1 (List.mem_of_getElem? (i := 168) rfl)⟩
theorem lw_p9 : lw_okq (⟨"GraphPolynomialsModel", "isEdge", "(I)Z"⟩, 7) := ⟨⟨by decide +kernel, by decide +kernel⟩, lw_t1 (List.mem_of_getElem? (i := 134) rfl), lw_t1 (List.mem_of_getElem? (i := 175) rfl), lw_t1 (List.mem_of_getElem? (i := 176) rfl)⟩
theorem lw_p10 : lw_okq (⟨"GraphPolynomialsModel", "all", "()I"⟩, 7) := ⟨⟨by decide +kernel, by decide +kernel⟩, lw_t1 (List.mem_of_getElem? (i := 134) rfl), lw_t1 (List.mem_of_getElem? (i := 192) rfl), lw_t1 (List.mem_of_getElem? (i := 193) rfl)⟩
theorem lw_p11 : lw_okq (⟨"GraphPolynomialsModel", "partsOf", "(I)I"⟩, 7) := ⟨⟨by decide +kernel, by decide +kernel⟩, lw_t1 (List.mem_of_getElem? (i := 134) rfl), lw_t1 (List.mem_of_getElem? (i := 196) rfl), lw_t1 (List.mem_of_getElem? (i := 197) rfl)⟩
theorem lw_p12 : lw_okq (⟨"GraphPolynomialsModel", "spread", "(I)V"⟩, 7) := ⟨⟨by decide +kernel, by decide +kernel⟩, lw_t1 (List.mem_of_getElem? (i := 134) rfl), lw_t1 (List.mem_of_getElem? (i := 200) rfl), lw_t1 (List.mem_of_getElem? (i := 201) rfl)⟩
theorem lw_p13 : lw_okq (⟨"GraphPolynomialsModel", "in", "(II)Z"⟩, 7) := ⟨⟨by decide +kernel, by decide +kernel⟩, lw_t1 (List.mem_of_getElem? (i := 134) rfl), lw_t1 (List.mem_of_getElem? (i := 204) rfl), lw_t1 (List.mem_of_getElem? (i := 205) rfl)⟩
theorem lw_p14 : lw_okq (⟨"GraphPolynomialsModel", "rank", "(I)I"⟩, 7) := ⟨⟨by decide +kernel, by decide +kernel⟩, lw_t1 (List.mem_of_getElem? (i := 134) rfl), lw_t1 (List.mem_of_getElem? (i := 212) rfl), lw_t1 (List.mem_of_getElem? (i := 213) rfl)⟩
theorem lw_p15 : lw_okq (⟨"GraphPolynomialsModel", "sizeOf", "(I)I"⟩, 7) := ⟨⟨by decide +kernel, by decide +kernel⟩, lw_t1 (List.mem_of_getElem? (i := 134) rfl), lw_t1 (List.mem_of_getElem? (i := 216) rfl), lw_t1 (List.mem_of_getElem? (i := 217) rfl)⟩
def lw_privs_1 : List (MethodName × Nat) := [(⟨"GraphPolynomials", "startPoints", "()I"⟩, 11), (⟨"GraphPolynomials", "drawnTogether", "(II)I"⟩, 11), (⟨"GraphPolynomials", "pointOf", "(II)I"⟩, 11), (⟨"GraphPolynomials", "joined", "(III)I"⟩, 11), (⟨"GraphPolynomials", "findPolynomial", "()V"⟩, 11), (⟨"GraphPolynomials", "push", "(IIII)V"⟩, 11), (⟨"GraphPolynomials", "workOff", "(IIII)V"⟩, 11), (⟨"GraphPolynomials", "valueAt", "(II)I"⟩, 11), (⟨"GraphPolynomialsModel", "isPoint", "(I)Z"⟩, 7), (⟨"GraphPolynomialsModel", "isEdge", "(I)Z"⟩, 7), (⟨"GraphPolynomialsModel", "all", "()I"⟩, 7), (⟨"GraphPolynomialsModel", "partsOf", "(I)I"⟩, 7), (⟨"GraphPolynomialsModel", "spread", "(I)V"⟩, 7), (⟨"GraphPolynomialsModel", "in", "(II)Z"⟩, 7), (⟨"GraphPolynomialsModel", "rank", "(I)I"⟩, 7), (⟨"GraphPolynomialsModel", "sizeOf", "(I)I"⟩, 7)]
theorem lw_r1 : ∀ q ∈ lw_privs_1, lw_okq q := List.forall_mem_cons.mpr ⟨lw_p0, List.forall_mem_cons.mpr ⟨lw_p1, List.forall_mem_cons.mpr ⟨lw_p2, List.forall_mem_cons.mpr ⟨lw_p3, List.forall_mem_cons.mpr ⟨lw_p4, List.forall_mem_cons.mpr ⟨lw_p5, List.forall_mem_cons.mpr ⟨lw_p6, List.forall_mem_cons.mpr ⟨lw_p7, List.forall_mem_cons.mpr ⟨lw_p8, List.forall_mem_cons.mpr ⟨lw_p9, List.forall_mem_cons.mpr ⟨lw_p10, List.forall_mem_cons.mpr ⟨lw_p11, List.forall_mem_cons.mpr ⟨lw_p12, List.forall_mem_cons.mpr ⟨lw_p13, List.forall_mem_cons.mpr ⟨lw_p14, List.forall_mem_cons.mpr ⟨lw_p15, fun _ h => absurd h List.not_mem_nil⟩⟩⟩⟩⟩⟩⟩⟩⟩⟩⟩⟩⟩⟩⟩⟩
theorem lw_p16 : lw_okq (⟨"GraphPolynomialsModel", "addTerm", "(II)V"⟩, 7) := ⟨⟨by decide +kernel, by decide +kernel⟩, lw_t1 (List.mem_of_getElem? (i := 134) rfl), lw_t1 (List.mem_of_getElem? (i := 220) rfl), lw_t1 (List.mem_of_getElem? (i := 221) rfl)⟩
theorem lw_p17 : lw_okq (⟨"GraphPolynomialsModel", "choose", "(II)J"⟩, 7) := ⟨⟨by decide +kernel, by decide +kernel⟩, lw_t1 (List.mem_of_getElem? (i := 134) rfl), lw_t1 (List.mem_of_getElem? (i := 224) rfl), lw_t1 (List.mem_of_getElem? (i := 225) rfl)⟩
theorem lw_p18 : lw_okq (⟨"GraphPolynomialsModel", "count", "(ZZ)I"⟩, 7) := ⟨⟨by decide +kernel, by decide +kernel⟩, lw_t1 (List.mem_of_getElem? (i := 134) rfl), lw_t1 (List.mem_of_getElem? (i := 232) rfl), lw_t1 (List.mem_of_getElem? (i := 233) rfl)⟩
theorem lw_p19 : lw_okq (⟨"GraphPolynomialsModel", "power", "(II)I"⟩, 7) := ⟨⟨by decide +kernel, by decide +kernel⟩, lw_t1 (List.mem_of_getElem? (i := 134) rfl), lw_t2 (List.mem_of_getElem? (i := 8) rfl), lw_t2 (List.mem_of_getElem? (i := 9) rfl)⟩
theorem lw_p20 : lw_okq (⟨"GraphPolynomialsModel", "digit", "(III)I"⟩, 7) := ⟨⟨by decide +kernel, by decide +kernel⟩, lw_t1 (List.mem_of_getElem? (i := 134) rfl), lw_t2 (List.mem_of_getElem? (i := 12) rfl), lw_t2 (List.mem_of_getElem? (i := 13) rfl)⟩
theorem lw_p21 : lw_okq (⟨"GraphPolynomialsModel", "balanced", "(II)Z"⟩, 7) := ⟨⟨by decide +kernel, by decide +kernel⟩, lw_t1 (List.mem_of_getElem? (i := 134) rfl), lw_t2 (List.mem_of_getElem? (i := 20) rfl), lw_t2 (List.mem_of_getElem? (i := 21) rfl)⟩
theorem lw_p22 : lw_okq (⟨"GraphPolynomialsModel", "noCircle", "(I)Z"⟩, 7) := ⟨⟨by decide +kernel, by decide +kernel⟩, lw_t1 (List.mem_of_getElem? (i := 134) rfl), lw_t2 (List.mem_of_getElem? (i := 28) rfl), lw_t2 (List.mem_of_getElem? (i := 29) rfl)⟩
def lw_privs_2 : List (MethodName × Nat) := [(⟨"GraphPolynomialsModel", "addTerm", "(II)V"⟩, 7), (⟨"GraphPolynomialsModel", "choose", "(II)J"⟩, 7), (⟨"GraphPolynomialsModel", "count", "(ZZ)I"⟩, 7), (⟨"GraphPolynomialsModel", "power", "(II)I"⟩, 7), (⟨"GraphPolynomialsModel", "digit", "(III)I"⟩, 7), (⟨"GraphPolynomialsModel", "balanced", "(II)Z"⟩, 7), (⟨"GraphPolynomialsModel", "noCircle", "(I)Z"⟩, 7)]
theorem lw_r2 : ∀ q ∈ lw_privs_2, lw_okq q := List.forall_mem_cons.mpr ⟨lw_p16, List.forall_mem_cons.mpr ⟨lw_p17, List.forall_mem_cons.mpr ⟨lw_p18, List.forall_mem_cons.mpr ⟨lw_p19, List.forall_mem_cons.mpr ⟨lw_p20, List.forall_mem_cons.mpr ⟨lw_p21, List.forall_mem_cons.mpr ⟨lw_p22, fun _ h => absurd h List.not_mem_nil⟩⟩⟩⟩⟩⟩⟩
def lw_privs : List (MethodName × Nat) := lw_privs_1 ++ (lw_privs_2)
def lw_tbl : List Cond := k2_sels lw_privs ++ tables_1
theorem lw_privs_ok : ∀ q ∈ lw_privs, lw_okq q := by
  show ∀ q ∈ lw_privs_1 ++ (lw_privs_2), lw_okq q
  exact List.forall_mem_append.mpr ⟨lw_r1, lw_r2⟩
-- ===== ONE list of words for every method: the tables' words that hold all through a run =====
def lw_all : List Cond := lw_tbl.filter goodWord
/-- a word of the tables by its place: claim/WORDS.tsv -/
theorem lw_w {w : Cond} (i : Nat) (h : lw_tbl[i]? = some w) (g : goodWord w = true) : w ∈ lw_all := List.mem_filter.mpr ⟨List.mem_of_getElem? h, g⟩
theorem lw_all_tbl {w : Cond} (h : w ∈ lw_all) : w ∈ lw_tbl := (List.mem_filter.mp h).1
theorem lw_self : GoodIn lw_all lw_all := fun w h => ⟨h, good_of_word (List.mem_filter.mp h).2⟩
/-- a class's field words, by their places -/
theorem lw_in (ws : List Cond) (ps : List Nat) (hp : ws = ps.filterMap (fun i => lw_tbl[i]?)) (hg : ws.all goodWord = true) : ∀ w ∈ ws, w ∈ lw_all := by
  intro w h
  have h1 := List.all_eq_true.mp hg w h
  rw [hp] at h
  obtain ⟨i, -, hi⟩ := List.mem_filterMap.mp h
  exact lw_w i hi h1
/-- the words of a contract for the method y with code b, L locals, answer r -/
abbrev ws_ (y : MethodName) (b : ByteArray) (L : Nat) (r : Option FieldType) : List Cond := Cond.code y b L r :: lw_all
theorem lw_meth {y : MethodName} {b : ByteArray} {L : Nat} {r : Option FieldType} (h : Cond.code y b L r ∈ lw_all) : GoodIn lw_all (ws_ y b L r) := by
  intro w hw
  rcases List.mem_cons.mp hw with e | e
  · rw [e]
    exact lw_self _ h
  · exact lw_self _ e
theorem lw_app {a c : List Cond} (ha : ∀ w ∈ a, w ∈ lw_all) (hc : GoodIn lw_all c) : GoodIn lw_all (a ++ c) := by
  intro w hw
  rcases List.mem_append.mp hw with e | e
  · exact lw_self w (ha w e)
  · exact hc w e
/-- what a call through an object asks: cwV n hts (lw_V ..) -/
theorem lw_V {own : String} {idx : Nat} {C : String} {y : MethodName} {b : ByteArray} {L : Nat} {r : Option FieldType} (h1 : Cond.methodLink own idx y ∈ lw_all) (h2 : Cond.instanceMethod y ∈ lw_all) (h3 : Cond.selects C y y ∈ lw_all) (h4 : Cond.initialized C ∈ lw_all) (h5 : Cond.code y b L r ∈ lw_all) : GoodIn lw_all (wsV own idx C y (ws_ y b L r)) := by
  refine lw_app ?_ (lw_meth h5)
  intro w hw
  simp only [List.mem_cons, List.not_mem_nil, or_false] at hw
  rcases hw with e | e | e | e
  · rw [e]; exact h1
  · rw [e]; exact h2
  · rw [e]; exact h3
  · rw [e]; exact h4
/-- what a static call asks: va_cwS n hts (lw_S ..) -/
theorem lw_S {own : String} {idx : Nat} {y : MethodName} {b : ByteArray} {L : Nat} {r : Option FieldType} (h1 : Cond.methodLink own idx y ∈ lw_all) (h2 : Cond.static y ∈ lw_all) (h3 : Cond.initialized y.cls ∈ lw_all) (h4 : Cond.code y b L r ∈ lw_all) : GoodIn lw_all (va_wsS own idx y (ws_ y b L r)) := by
  refine lw_app ?_ (lw_meth h4)
  intro w hw
  simp only [List.mem_cons, List.not_mem_nil, or_false] at hw
  rcases hw with e | e | e
  · rw [e]; exact h1
  · rw [e]; exact h2
  · rw [e]; exact h3
/-- the words of a contract for a method WITH HANDLERS (hh: its table) -/
abbrev wsW_ (y : MethodName) (b : ByteArray) (L : Nat) (r : Option FieldType) (hh : List (Nat × Nat × Nat × Nat)) : List Cond := Cond.codeWith y b L r hh :: lw_all
theorem lw_methW {y : MethodName} {b : ByteArray} {L : Nat} {r : Option FieldType} {hh : List (Nat × Nat × Nat × Nat)} (h : Cond.codeWith y b L r hh ∈ lw_all) : GoodIn lw_all (wsW_ y b L r hh) := by
  intro w hw
  rcases List.mem_cons.mp hw with e | e
  · rw [e]
    exact lw_self _ h
  · exact lw_self _ e
/-- any list of words by their places (lw_in), good -/
theorem lw_good {ws : List Cond} (h : ∀ w ∈ ws, w ∈ lw_all) : GoodIn lw_all ws := fun w hw => lw_self w (h w hw)
/-- what a call of a method with handlers asks: vx_cwVW n hts (lw_VW ..), vx_cwSW n hts (lw_SW ..) -/
theorem lw_VW {own : String} {idx : Nat} {C : String} {y : MethodName} {b : ByteArray} {L : Nat} {r : Option FieldType} {hh : List (Nat × Nat × Nat × Nat)} (h1 : Cond.methodLink own idx y ∈ lw_all) (h2 : Cond.instanceMethod y ∈ lw_all) (h3 : Cond.selects C y y ∈ lw_all) (h4 : Cond.initialized C ∈ lw_all) (h5 : Cond.codeWith y b L r hh ∈ lw_all) : GoodIn lw_all (wsV own idx C y (wsW_ y b L r hh)) := by
  refine lw_app ?_ (lw_methW h5)
  intro w hw
  simp only [List.mem_cons, List.not_mem_nil, or_false] at hw
  rcases hw with e | e | e | e
  · rw [e]; exact h1
  · rw [e]; exact h2
  · rw [e]; exact h3
  · rw [e]; exact h4
theorem lw_SW {own : String} {idx : Nat} {y : MethodName} {b : ByteArray} {L : Nat} {r : Option FieldType} {hh : List (Nat × Nat × Nat × Nat)} (h1 : Cond.methodLink own idx y ∈ lw_all) (h2 : Cond.static y ∈ lw_all) (h3 : Cond.initialized y.cls ∈ lw_all) (h4 : Cond.codeWith y b L r hh ∈ lw_all) : GoodIn lw_all (va_wsS own idx y (wsW_ y b L r hh)) := by
  refine lw_app ?_ (lw_methW h4)
  intro w hw
  simp only [List.mem_cons, List.not_mem_nil, or_false] at hw
  rcases hw with e | e | e
  · rw [e]; exact h1
  · rw [e]; exact h2
  · rw [e]; exact h3
/-- a word by its place in its run of the tables -/
theorem lw_at {r : List Cond} (hr : ∀ w ∈ r, w ∈ lw_tbl) {w : Cond} (i : Nat) (h : r[i]? = some w) : w ∈ lw_tbl := hr w (List.mem_of_getElem? h)
theorem lw_g {w : Cond} (h : w ∈ lw_tbl) (g : goodWord w = true) : w ∈ lw_all := List.mem_filter.mpr ⟨h, g⟩
theorem lw_ms : ∀ w ∈ k2_sels lw_privs, w ∈ lw_tbl := fun w h => show w ∈ k2_sels lw_privs ++ tables_1 from List.mem_append_left _ h
theorem lw_m1 : ∀ w ∈ tables_1_1, w ∈ lw_tbl := fun w h => show w ∈ k2_sels lw_privs ++ tables_1 from List.mem_append_right (k2_sels lw_privs) (show w ∈ tables_1 from List.mem_append_left _ h)
theorem lw_m2 : ∀ w ∈ tables_1_2, w ∈ lw_tbl := fun w h => show w ∈ k2_sels lw_privs ++ tables_1 from List.mem_append_right (k2_sels lw_privs) (show w ∈ tables_1 from List.mem_append_right _ h)
theorem qs0 : (Cond.selects "GraphPolynomials" ⟨"GraphPolynomials", "startPoints", "()I"⟩ ⟨"GraphPolynomials", "startPoints", "()I"⟩) ∈ lw_all := lw_g (lw_at lw_ms 0 rfl) rfl
theorem qs1 : (Cond.selects "GraphPolynomials" ⟨"GraphPolynomials", "drawnTogether", "(II)I"⟩ ⟨"GraphPolynomials", "drawnTogether", "(II)I"⟩) ∈ lw_all := lw_g (lw_at lw_ms 1 rfl) rfl
theorem qs2 : (Cond.selects "GraphPolynomials" ⟨"GraphPolynomials", "pointOf", "(II)I"⟩ ⟨"GraphPolynomials", "pointOf", "(II)I"⟩) ∈ lw_all := lw_g (lw_at lw_ms 2 rfl) rfl
theorem qs3 : (Cond.selects "GraphPolynomials" ⟨"GraphPolynomials", "joined", "(III)I"⟩ ⟨"GraphPolynomials", "joined", "(III)I"⟩) ∈ lw_all := lw_g (lw_at lw_ms 3 rfl) rfl
theorem qs4 : (Cond.selects "GraphPolynomials" ⟨"GraphPolynomials", "findPolynomial", "()V"⟩ ⟨"GraphPolynomials", "findPolynomial", "()V"⟩) ∈ lw_all := lw_g (lw_at lw_ms 4 rfl) rfl
theorem qs5 : (Cond.selects "GraphPolynomials" ⟨"GraphPolynomials", "push", "(IIII)V"⟩ ⟨"GraphPolynomials", "push", "(IIII)V"⟩) ∈ lw_all := lw_g (lw_at lw_ms 5 rfl) rfl
theorem qs6 : (Cond.selects "GraphPolynomials" ⟨"GraphPolynomials", "workOff", "(IIII)V"⟩ ⟨"GraphPolynomials", "workOff", "(IIII)V"⟩) ∈ lw_all := lw_g (lw_at lw_ms 6 rfl) rfl
theorem qs7 : (Cond.selects "GraphPolynomials" ⟨"GraphPolynomials", "valueAt", "(II)I"⟩ ⟨"GraphPolynomials", "valueAt", "(II)I"⟩) ∈ lw_all := lw_g (lw_at lw_ms 7 rfl) rfl
theorem qs8 : (Cond.selects "GraphPolynomialsModel" ⟨"GraphPolynomialsModel", "isPoint", "(I)Z"⟩ ⟨"GraphPolynomialsModel", "isPoint", "(I)Z"⟩) ∈ lw_all := lw_g (lw_at lw_ms 8 rfl) rfl
theorem qs9 : (Cond.selects "GraphPolynomialsModel" ⟨"GraphPolynomialsModel", "isEdge", "(I)Z"⟩ ⟨"GraphPolynomialsModel", "isEdge", "(I)Z"⟩) ∈ lw_all := lw_g (lw_at lw_ms 9 rfl) rfl
theorem qs10 : (Cond.selects "GraphPolynomialsModel" ⟨"GraphPolynomialsModel", "all", "()I"⟩ ⟨"GraphPolynomialsModel", "all", "()I"⟩) ∈ lw_all := lw_g (lw_at lw_ms 10 rfl) rfl
theorem qs11 : (Cond.selects "GraphPolynomialsModel" ⟨"GraphPolynomialsModel", "partsOf", "(I)I"⟩ ⟨"GraphPolynomialsModel", "partsOf", "(I)I"⟩) ∈ lw_all := lw_g (lw_at lw_ms 11 rfl) rfl
theorem qs12 : (Cond.selects "GraphPolynomialsModel" ⟨"GraphPolynomialsModel", "spread", "(I)V"⟩ ⟨"GraphPolynomialsModel", "spread", "(I)V"⟩) ∈ lw_all := lw_g (lw_at lw_ms 12 rfl) rfl
theorem qs13 : (Cond.selects "GraphPolynomialsModel" ⟨"GraphPolynomialsModel", "in", "(II)Z"⟩ ⟨"GraphPolynomialsModel", "in", "(II)Z"⟩) ∈ lw_all := lw_g (lw_at lw_ms 13 rfl) rfl
theorem qs14 : (Cond.selects "GraphPolynomialsModel" ⟨"GraphPolynomialsModel", "rank", "(I)I"⟩ ⟨"GraphPolynomialsModel", "rank", "(I)I"⟩) ∈ lw_all := lw_g (lw_at lw_ms 14 rfl) rfl
theorem qs15 : (Cond.selects "GraphPolynomialsModel" ⟨"GraphPolynomialsModel", "sizeOf", "(I)I"⟩ ⟨"GraphPolynomialsModel", "sizeOf", "(I)I"⟩) ∈ lw_all := lw_g (lw_at lw_ms 15 rfl) rfl
theorem qs16 : (Cond.selects "GraphPolynomialsModel" ⟨"GraphPolynomialsModel", "addTerm", "(II)V"⟩ ⟨"GraphPolynomialsModel", "addTerm", "(II)V"⟩) ∈ lw_all := lw_g (lw_at lw_ms 16 rfl) rfl
theorem qs17 : (Cond.selects "GraphPolynomialsModel" ⟨"GraphPolynomialsModel", "choose", "(II)J"⟩ ⟨"GraphPolynomialsModel", "choose", "(II)J"⟩) ∈ lw_all := lw_g (lw_at lw_ms 17 rfl) rfl
theorem qs18 : (Cond.selects "GraphPolynomialsModel" ⟨"GraphPolynomialsModel", "count", "(ZZ)I"⟩ ⟨"GraphPolynomialsModel", "count", "(ZZ)I"⟩) ∈ lw_all := lw_g (lw_at lw_ms 18 rfl) rfl
theorem qs19 : (Cond.selects "GraphPolynomialsModel" ⟨"GraphPolynomialsModel", "power", "(II)I"⟩ ⟨"GraphPolynomialsModel", "power", "(II)I"⟩) ∈ lw_all := lw_g (lw_at lw_ms 19 rfl) rfl
theorem qs20 : (Cond.selects "GraphPolynomialsModel" ⟨"GraphPolynomialsModel", "digit", "(III)I"⟩ ⟨"GraphPolynomialsModel", "digit", "(III)I"⟩) ∈ lw_all := lw_g (lw_at lw_ms 20 rfl) rfl
theorem qs21 : (Cond.selects "GraphPolynomialsModel" ⟨"GraphPolynomialsModel", "balanced", "(II)Z"⟩ ⟨"GraphPolynomialsModel", "balanced", "(II)Z"⟩) ∈ lw_all := lw_g (lw_at lw_ms 21 rfl) rfl
theorem qs22 : (Cond.selects "GraphPolynomialsModel" ⟨"GraphPolynomialsModel", "noCircle", "(I)Z"⟩ ⟨"GraphPolynomialsModel", "noCircle", "(I)Z"⟩) ∈ lw_all := lw_g (lw_at lw_ms 22 rfl) rfl
end
section
/-! GraphPolynomialsLaw -/
set_option maxRecDepth 100000
def RX0 : String := "GraphPolynomialsLaw"
abbrev cX0_cell : ByteArray := method_2_code
def yX0_cell : MethodName := ⟨RX0, "cell", "([II)I"⟩
theorem dX0_cell_0 : decode cX0_cell 0 = .ok (.iload_n 1, 1) := by decide +kernel
theorem dX0_cell_1 : decode cX0_cell 1 = .ok (.aload_n 0, 1) := by decide +kernel
theorem dX0_cell_2 : decode cX0_cell 2 = .ok (.arraylength, 1) := by decide +kernel
theorem dX0_cell_3 : decode cX0_cell 3 = .ok (.if_icmp .ge 9, 3) := by decide +kernel
theorem dX0_cell_6 : decode cX0_cell 6 = .ok (.aload_n 0, 1) := by decide +kernel
theorem dX0_cell_7 : decode cX0_cell 7 = .ok (.iload_n 1, 1) := by decide +kernel
theorem dX0_cell_8 : decode cX0_cell 8 = .ok (.iaload, 1) := by decide +kernel
theorem dX0_cell_9 : decode cX0_cell 9 = .ok (.goto 4, 3) := by decide +kernel
theorem dX0_cell_12 : decode cX0_cell 12 = .ok (.iconst 0, 1) := by decide +kernel
theorem dX0_cell_13 : decode cX0_cell 13 = .ok (.ireturn, 1) := by decide +kernel
theorem q23 : (Jvm.Cond.initialized "GraphPolynomialsLaw") ∈ lw_all := lw_g (lw_at lw_m1 0 rfl) rfl
theorem q26 : (Jvm.Cond.classLink "GraphPolynomialsLaw" (7 : Nat) "GraphPolynomials") ∈ lw_all := lw_g (lw_at lw_m1 3 rfl) rfl
theorem q28 : (Jvm.Cond.methodLink "GraphPolynomialsLaw" (15 : Nat) ({ cls := "GraphPolynomials", name := "<init>", desc := "(I)V" } : Jvm.MethodName)) ∈ lw_all := lw_g (lw_at lw_m1 5 rfl) rfl
theorem q71 : (Jvm.Cond.methodLink "GraphPolynomialsLaw" (21 : Nat) ({ cls := "GraphPolynomials", name := "add", desc := "(II)I" } : Jvm.MethodName)) ∈ lw_all := lw_g (lw_at lw_m1 48 rfl) rfl
theorem q75 : (Jvm.Cond.methodLink "GraphPolynomialsLaw" (26 : Nat) ({ cls := "GraphPolynomials", name := "drop", desc := "(I)I" } : Jvm.MethodName)) ∈ lw_all := lw_g (lw_at lw_m1 52 rfl) rfl
theorem q79 : (Jvm.Cond.methodLink "GraphPolynomialsLaw" (31 : Nat) ({ cls := "GraphPolynomials", name := "merge", desc := "(I)I" } : Jvm.MethodName)) ∈ lw_all := lw_g (lw_at lw_m1 56 rfl) rfl
theorem q84 : (Jvm.Cond.methodLink "GraphPolynomialsLaw" (35 : Nat) ({ cls := "GraphPolynomials", name := "edges", desc := "()I" } : Jvm.MethodName)) ∈ lw_all := lw_g (lw_at lw_m1 61 rfl) rfl
theorem q88 : (Jvm.Cond.methodLink "GraphPolynomialsLaw" (40 : Nat) ({ cls := "GraphPolynomials", name := "parts", desc := "()I" } : Jvm.MethodName)) ∈ lw_all := lw_g (lw_at lw_m1 65 rfl) rfl
theorem q108 : (Jvm.Cond.methodLink "GraphPolynomialsLaw" (44 : Nat) ({ cls := "GraphPolynomials", name := "coefficient", desc := "(II)I" } : Jvm.MethodName)) ∈ lw_all := lw_g (lw_at lw_m1 85 rfl) rfl
theorem q124 : (Jvm.Cond.methodLink "GraphPolynomialsLaw" (48 : Nat) ({ cls := "GraphPolynomials", name := "trees", desc := "()I" } : Jvm.MethodName)) ∈ lw_all := lw_g (lw_at lw_m1 101 rfl) rfl
theorem q132 : (Jvm.Cond.methodLink "GraphPolynomialsLaw" (52 : Nat) ({ cls := "GraphPolynomials", name := "forests", desc := "()I" } : Jvm.MethodName)) ∈ lw_all := lw_g (lw_at lw_m1 109 rfl) rfl
theorem q136 : (Jvm.Cond.methodLink "GraphPolynomialsLaw" (56 : Nat) ({ cls := "GraphPolynomials", name := "spanning", desc := "()I" } : Jvm.MethodName)) ∈ lw_all := lw_g (lw_at lw_m1 113 rfl) rfl
theorem q140 : (Jvm.Cond.methodLink "GraphPolynomialsLaw" (60 : Nat) ({ cls := "GraphPolynomials", name := "colourings", desc := "(I)I" } : Jvm.MethodName)) ∈ lw_all := lw_g (lw_at lw_m1 117 rfl) rfl
theorem q145 : (Jvm.Cond.methodLink "GraphPolynomialsLaw" (64 : Nat) ({ cls := "GraphPolynomials", name := "flows", desc := "(I)I" } : Jvm.MethodName)) ∈ lw_all := lw_g (lw_at lw_m1 122 rfl) rfl
theorem q149 : (Jvm.Cond.methodLink "GraphPolynomialsLaw" (68 : Nat) ({ cls := "GraphPolynomials", name := "acyclic", desc := "()I" } : Jvm.MethodName)) ∈ lw_all := lw_g (lw_at lw_m1 126 rfl) rfl
theorem q153 : (Jvm.Cond.methodLink "GraphPolynomialsLaw" (9 : Nat) ({ cls := "GraphPolynomialsLaw", name := "cell", desc := "([II)I" } : Jvm.MethodName)) ∈ lw_all := lw_g (lw_at lw_m1 130 rfl) rfl
theorem q154 : (Jvm.Cond.static ({ cls := "GraphPolynomialsLaw", name := "cell", desc := "([II)I" } : Jvm.MethodName)) ∈ lw_all := lw_g (lw_at lw_m1 131 rfl) rfl
theorem q155 : (Jvm.Cond.code ({ cls := "GraphPolynomialsLaw", name := "cell", desc := "([II)I" } : Jvm.MethodName) method_2_code (2 : Nat) (Option.some Jvm.ClassFile.FieldType.int)) ∈ lw_all := lw_g (lw_at lw_m1 132 rfl) rfl
theorem q156 : (Jvm.Cond.classLink "GraphPolynomialsLaw" (18 : Nat) "GraphPolynomialsModel") ∈ lw_all := lw_g (lw_at lw_m1 133 rfl) rfl
theorem q158 : (Jvm.Cond.methodLink "GraphPolynomialsLaw" (20 : Nat) ({ cls := "GraphPolynomialsModel", name := "<init>", desc := "(I)V" } : Jvm.MethodName)) ∈ lw_all := lw_g (lw_at lw_m1 135 rfl) rfl
theorem q185 : (Jvm.Cond.methodLink "GraphPolynomialsLaw" (25 : Nat) ({ cls := "GraphPolynomialsModel", name := "add", desc := "(II)I" } : Jvm.MethodName)) ∈ lw_all := lw_g (lw_at lw_m1 162 rfl) rfl
theorem q193 : (Jvm.Cond.methodLink "GraphPolynomialsLaw" (30 : Nat) ({ cls := "GraphPolynomialsModel", name := "drop", desc := "(I)I" } : Jvm.MethodName)) ∈ lw_all := lw_g (lw_at lw_m1 170 rfl) rfl
theorem q201 : (Jvm.Cond.methodLink "GraphPolynomialsLaw" (34 : Nat) ({ cls := "GraphPolynomialsModel", name := "merge", desc := "(I)I" } : Jvm.MethodName)) ∈ lw_all := lw_g (lw_at lw_m1 178 rfl) rfl
theorem q206 : (Jvm.Cond.methodLink "GraphPolynomialsLaw" (39 : Nat) ({ cls := "GraphPolynomialsModel", name := "edges", desc := "()I" } : Jvm.MethodName)) ∈ lw_all := lw_g (lw_at lw_m1 183 rfl) rfl
theorem q210 : (Jvm.Cond.methodLink "GraphPolynomialsLaw" (43 : Nat) ({ cls := "GraphPolynomialsModel", name := "parts", desc := "()I" } : Jvm.MethodName)) ∈ lw_all := lw_g (lw_at lw_m1 187 rfl) rfl
theorem q230 : (Jvm.Cond.methodLink "GraphPolynomialsLaw" (47 : Nat) ({ cls := "GraphPolynomialsModel", name := "coefficient", desc := "(II)I" } : Jvm.MethodName)) ∈ lw_all := lw_g (lw_at lw_m1 207 rfl) rfl
theorem q250 : (Jvm.Cond.methodLink "GraphPolynomialsLaw" (51 : Nat) ({ cls := "GraphPolynomialsModel", name := "trees", desc := "()I" } : Jvm.MethodName)) ∈ lw_all := lw_g (lw_at lw_m1 227 rfl) rfl
theorem q258 : (Jvm.Cond.methodLink "GraphPolynomialsLaw" (55 : Nat) ({ cls := "GraphPolynomialsModel", name := "forests", desc := "()I" } : Jvm.MethodName)) ∈ lw_all := lw_g (lw_at lw_m1 235 rfl) rfl
theorem q262 : (Jvm.Cond.methodLink "GraphPolynomialsLaw" (59 : Nat) ({ cls := "GraphPolynomialsModel", name := "spanning", desc := "()I" } : Jvm.MethodName)) ∈ lw_all := lw_g (lw_at lw_m1 239 rfl) rfl
theorem q266 : (Jvm.Cond.methodLink "GraphPolynomialsLaw" (63 : Nat) ({ cls := "GraphPolynomialsModel", name := "colourings", desc := "(I)I" } : Jvm.MethodName)) ∈ lw_all := lw_g (lw_at lw_m2 3 rfl) rfl
theorem q278 : (Jvm.Cond.methodLink "GraphPolynomialsLaw" (67 : Nat) ({ cls := "GraphPolynomialsModel", name := "flows", desc := "(I)I" } : Jvm.MethodName)) ∈ lw_all := lw_g (lw_at lw_m2 15 rfl) rfl
theorem q286 : (Jvm.Cond.methodLink "GraphPolynomialsLaw" (71 : Nat) ({ cls := "GraphPolynomialsModel", name := "acyclic", desc := "()I" } : Jvm.MethodName)) ∈ lw_all := lw_g (lw_at lw_m2 23 rfl) rfl
/-! java/lang/Object -/
set_option maxRecDepth 100000
def RJ0 : String := "java/lang/Object"
abbrev cJ0_init : ByteArray := object_method_1_code
def yJ0_init : MethodName := ⟨RJ0, "<init>", "()V"⟩
theorem dJ0_init_0 : decode cJ0_init 0 = .ok (.return_, 1) := by decide +kernel
theorem q32 : (Jvm.Cond.instanceMethod ({ cls := "java/lang/Object", name := "<init>", desc := "()V" } : Jvm.MethodName)) ∈ lw_all := lw_g (lw_at lw_m1 9 rfl) rfl
theorem q33 : (Jvm.Cond.code ({ cls := "java/lang/Object", name := "<init>", desc := "()V" } : Jvm.MethodName) object_method_1_code (1 : Nat) (Option.none : Option Jvm.ClassFile.FieldType)) ∈ lw_all := lw_g (lw_at lw_m1 10 rfl) rfl
theorem q68 : (Jvm.Cond.arrayClass Jvm.ClassFile.FieldType.byte) ∈ lw_all := lw_g (lw_at lw_m1 45 rfl) rfl
set_option maxRecDepth 100000
theorem q69 : (Jvm.Cond.arrayClass Jvm.ClassFile.FieldType.int) ∈ lw_all := lw_g (lw_at lw_m1 46 rfl) rfl
theorem q70 : (Jvm.Cond.arrayClass Jvm.ClassFile.FieldType.short) ∈ lw_all := lw_g (lw_at lw_m1 47 rfl) rfl
theorem q184 : (Jvm.Cond.arrayClass Jvm.ClassFile.FieldType.long) ∈ lw_all := lw_g (lw_at lw_m1 161 rfl) rfl
end
section
/-! the law's own entry -/
set_option maxRecDepth 100000
abbrev cL_law : ByteArray := code
theorem dL_law_0 : decode cL_law 0 = .ok (.new 7, 3) := by decide +kernel
theorem dL_law_3 : decode cL_law 3 = .ok (.dup, 1) := by decide +kernel
theorem dL_law_4 : decode cL_law 4 = .ok (.aload_n 0, 1) := by decide +kernel
theorem dL_law_5 : decode cL_law 5 = .ok (.iconst 0, 1) := by decide +kernel
theorem dL_law_6 : decode cL_law 6 = .ok (.invokestatic 9, 3) := by decide +kernel
theorem dL_law_9 : decode cL_law 9 = .ok (.invokespecial 15, 3) := by decide +kernel
theorem dL_law_12 : decode cL_law 12 = .ok (.astore_n 1, 1) := by decide +kernel
theorem dL_law_13 : decode cL_law 13 = .ok (.new 18, 3) := by decide +kernel
theorem dL_law_16 : decode cL_law 16 = .ok (.dup, 1) := by decide +kernel
theorem dL_law_17 : decode cL_law 17 = .ok (.aload_n 0, 1) := by decide +kernel
theorem dL_law_18 : decode cL_law 18 = .ok (.iconst 0, 1) := by decide +kernel
theorem dL_law_19 : decode cL_law 19 = .ok (.invokestatic 9, 3) := by decide +kernel
theorem dL_law_22 : decode cL_law 22 = .ok (.invokespecial 20, 3) := by decide +kernel
theorem dL_law_25 : decode cL_law 25 = .ok (.astore_n 2, 1) := by decide +kernel
theorem dL_law_26 : decode cL_law 26 = .ok (.iconst 1, 1) := by decide +kernel
theorem dL_law_27 : decode cL_law 27 = .ok (.istore_n 3, 1) := by decide +kernel
theorem dL_law_28 : decode cL_law 28 = .ok (.iload_n 3, 1) := by decide +kernel
theorem dL_law_29 : decode cL_law 29 = .ok (.aload_n 0, 1) := by decide +kernel
theorem dL_law_30 : decode cL_law 30 = .ok (.arraylength, 1) := by decide +kernel
theorem dL_law_31 : decode cL_law 31 = .ok (.iconst 3, 1) := by decide +kernel
theorem dL_law_32 : decode cL_law 32 = .ok (.isub, 1) := by decide +kernel
theorem dL_law_33 : decode cL_law 33 = .ok (.if_icmp .gt 313, 3) := by decide +kernel
theorem dL_law_36 : decode cL_law 36 = .ok (.aload_n 0, 1) := by decide +kernel
theorem dL_law_37 : decode cL_law 37 = .ok (.iload_n 3, 1) := by decide +kernel
theorem dL_law_38 : decode cL_law 38 = .ok (.iaload, 1) := by decide +kernel
theorem dL_law_39 : decode cL_law 39 = .ok (.bipush 15, 2) := by decide +kernel
theorem dL_law_41 : decode cL_law 41 = .ok (.iand, 1) := by decide +kernel
theorem dL_law_42 : decode cL_law 42 = .ok (.tableswitch 298 0 11 #[62, 95, 118, 141, 154, 167, 200, 213, 226, 239, 262, 285], 62) := by decide +kernel
theorem dL_law_104 : decode cL_law 104 = .ok (.aload_n 1, 1) := by decide +kernel
theorem dL_law_105 : decode cL_law 105 = .ok (.aload_n 0, 1) := by decide +kernel
theorem dL_law_106 : decode cL_law 106 = .ok (.iload_n 3, 1) := by decide +kernel
theorem dL_law_107 : decode cL_law 107 = .ok (.iconst 1, 1) := by decide +kernel
theorem dL_law_108 : decode cL_law 108 = .ok (.iadd, 1) := by decide +kernel
theorem dL_law_109 : decode cL_law 109 = .ok (.iaload, 1) := by decide +kernel
theorem dL_law_110 : decode cL_law 110 = .ok (.aload_n 0, 1) := by decide +kernel
theorem dL_law_111 : decode cL_law 111 = .ok (.iload_n 3, 1) := by decide +kernel
theorem dL_law_112 : decode cL_law 112 = .ok (.iconst 2, 1) := by decide +kernel
theorem dL_law_113 : decode cL_law 113 = .ok (.iadd, 1) := by decide +kernel
theorem dL_law_114 : decode cL_law 114 = .ok (.iaload, 1) := by decide +kernel
theorem dL_law_115 : decode cL_law 115 = .ok (.invokevirtual 21, 3) := by decide +kernel
theorem dL_law_118 : decode cL_law 118 = .ok (.aload_n 2, 1) := by decide +kernel
theorem dL_law_119 : decode cL_law 119 = .ok (.aload_n 0, 1) := by decide +kernel
theorem dL_law_120 : decode cL_law 120 = .ok (.iload_n 3, 1) := by decide +kernel
theorem dL_law_121 : decode cL_law 121 = .ok (.iconst 1, 1) := by decide +kernel
theorem dL_law_122 : decode cL_law 122 = .ok (.iadd, 1) := by decide +kernel
theorem dL_law_123 : decode cL_law 123 = .ok (.iaload, 1) := by decide +kernel
theorem dL_law_124 : decode cL_law 124 = .ok (.aload_n 0, 1) := by decide +kernel
theorem dL_law_125 : decode cL_law 125 = .ok (.iload_n 3, 1) := by decide +kernel
theorem dL_law_126 : decode cL_law 126 = .ok (.iconst 2, 1) := by decide +kernel
theorem dL_law_127 : decode cL_law 127 = .ok (.iadd, 1) := by decide +kernel
theorem dL_law_128 : decode cL_law 128 = .ok (.iaload, 1) := by decide +kernel
theorem dL_law_129 : decode cL_law 129 = .ok (.invokevirtual 25, 3) := by decide +kernel
theorem dL_law_132 : decode cL_law 132 = .ok (.if_icmp .eq 208, 3) := by decide +kernel
theorem dL_law_135 : decode cL_law 135 = .ok (.iconst 0, 1) := by decide +kernel
theorem dL_law_136 : decode cL_law 136 = .ok (.ireturn, 1) := by decide +kernel
theorem dL_law_137 : decode cL_law 137 = .ok (.aload_n 1, 1) := by decide +kernel
theorem dL_law_138 : decode cL_law 138 = .ok (.aload_n 0, 1) := by decide +kernel
theorem dL_law_139 : decode cL_law 139 = .ok (.iload_n 3, 1) := by decide +kernel
theorem dL_law_140 : decode cL_law 140 = .ok (.iconst 1, 1) := by decide +kernel
theorem dL_law_141 : decode cL_law 141 = .ok (.iadd, 1) := by decide +kernel
theorem dL_law_142 : decode cL_law 142 = .ok (.iaload, 1) := by decide +kernel
theorem dL_law_143 : decode cL_law 143 = .ok (.invokevirtual 26, 3) := by decide +kernel
theorem dL_law_146 : decode cL_law 146 = .ok (.aload_n 2, 1) := by decide +kernel
theorem dL_law_147 : decode cL_law 147 = .ok (.aload_n 0, 1) := by decide +kernel
theorem dL_law_148 : decode cL_law 148 = .ok (.iload_n 3, 1) := by decide +kernel
theorem dL_law_149 : decode cL_law 149 = .ok (.iconst 1, 1) := by decide +kernel
theorem dL_law_150 : decode cL_law 150 = .ok (.iadd, 1) := by decide +kernel
theorem dL_law_151 : decode cL_law 151 = .ok (.iaload, 1) := by decide +kernel
theorem dL_law_152 : decode cL_law 152 = .ok (.invokevirtual 30, 3) := by decide +kernel
theorem dL_law_155 : decode cL_law 155 = .ok (.if_icmp .eq 185, 3) := by decide +kernel
theorem dL_law_158 : decode cL_law 158 = .ok (.iconst 0, 1) := by decide +kernel
theorem dL_law_159 : decode cL_law 159 = .ok (.ireturn, 1) := by decide +kernel
theorem dL_law_160 : decode cL_law 160 = .ok (.aload_n 1, 1) := by decide +kernel
theorem dL_law_161 : decode cL_law 161 = .ok (.aload_n 0, 1) := by decide +kernel
theorem dL_law_162 : decode cL_law 162 = .ok (.iload_n 3, 1) := by decide +kernel
theorem dL_law_163 : decode cL_law 163 = .ok (.iconst 1, 1) := by decide +kernel
theorem dL_law_164 : decode cL_law 164 = .ok (.iadd, 1) := by decide +kernel
theorem dL_law_165 : decode cL_law 165 = .ok (.iaload, 1) := by decide +kernel
theorem dL_law_166 : decode cL_law 166 = .ok (.invokevirtual 31, 3) := by decide +kernel
theorem dL_law_169 : decode cL_law 169 = .ok (.aload_n 2, 1) := by decide +kernel
theorem dL_law_170 : decode cL_law 170 = .ok (.aload_n 0, 1) := by decide +kernel
theorem dL_law_171 : decode cL_law 171 = .ok (.iload_n 3, 1) := by decide +kernel
theorem dL_law_172 : decode cL_law 172 = .ok (.iconst 1, 1) := by decide +kernel
theorem dL_law_173 : decode cL_law 173 = .ok (.iadd, 1) := by decide +kernel
theorem dL_law_174 : decode cL_law 174 = .ok (.iaload, 1) := by decide +kernel
theorem dL_law_175 : decode cL_law 175 = .ok (.invokevirtual 34, 3) := by decide +kernel
theorem dL_law_178 : decode cL_law 178 = .ok (.if_icmp .eq 162, 3) := by decide +kernel
theorem dL_law_181 : decode cL_law 181 = .ok (.iconst 0, 1) := by decide +kernel
theorem dL_law_182 : decode cL_law 182 = .ok (.ireturn, 1) := by decide +kernel
theorem dL_law_183 : decode cL_law 183 = .ok (.aload_n 1, 1) := by decide +kernel
theorem dL_law_184 : decode cL_law 184 = .ok (.invokevirtual 35, 3) := by decide +kernel
theorem dL_law_187 : decode cL_law 187 = .ok (.aload_n 2, 1) := by decide +kernel
theorem dL_law_188 : decode cL_law 188 = .ok (.invokevirtual 39, 3) := by decide +kernel
theorem dL_law_191 : decode cL_law 191 = .ok (.if_icmp .eq 149, 3) := by decide +kernel
theorem dL_law_194 : decode cL_law 194 = .ok (.iconst 0, 1) := by decide +kernel
theorem dL_law_195 : decode cL_law 195 = .ok (.ireturn, 1) := by decide +kernel
theorem dL_law_196 : decode cL_law 196 = .ok (.aload_n 1, 1) := by decide +kernel
theorem dL_law_197 : decode cL_law 197 = .ok (.invokevirtual 40, 3) := by decide +kernel
theorem dL_law_200 : decode cL_law 200 = .ok (.aload_n 2, 1) := by decide +kernel
theorem dL_law_201 : decode cL_law 201 = .ok (.invokevirtual 43, 3) := by decide +kernel
theorem dL_law_204 : decode cL_law 204 = .ok (.if_icmp .eq 136, 3) := by decide +kernel
theorem dL_law_207 : decode cL_law 207 = .ok (.iconst 0, 1) := by decide +kernel
theorem dL_law_208 : decode cL_law 208 = .ok (.ireturn, 1) := by decide +kernel
theorem dL_law_209 : decode cL_law 209 = .ok (.aload_n 1, 1) := by decide +kernel
theorem dL_law_210 : decode cL_law 210 = .ok (.aload_n 0, 1) := by decide +kernel
theorem dL_law_211 : decode cL_law 211 = .ok (.iload_n 3, 1) := by decide +kernel
theorem dL_law_212 : decode cL_law 212 = .ok (.iconst 1, 1) := by decide +kernel
theorem dL_law_213 : decode cL_law 213 = .ok (.iadd, 1) := by decide +kernel
theorem dL_law_214 : decode cL_law 214 = .ok (.iaload, 1) := by decide +kernel
theorem dL_law_215 : decode cL_law 215 = .ok (.aload_n 0, 1) := by decide +kernel
theorem dL_law_216 : decode cL_law 216 = .ok (.iload_n 3, 1) := by decide +kernel
theorem dL_law_217 : decode cL_law 217 = .ok (.iconst 2, 1) := by decide +kernel
theorem dL_law_218 : decode cL_law 218 = .ok (.iadd, 1) := by decide +kernel
theorem dL_law_219 : decode cL_law 219 = .ok (.iaload, 1) := by decide +kernel
theorem dL_law_220 : decode cL_law 220 = .ok (.invokevirtual 44, 3) := by decide +kernel
theorem dL_law_223 : decode cL_law 223 = .ok (.aload_n 2, 1) := by decide +kernel
theorem dL_law_224 : decode cL_law 224 = .ok (.aload_n 0, 1) := by decide +kernel
theorem dL_law_225 : decode cL_law 225 = .ok (.iload_n 3, 1) := by decide +kernel
theorem dL_law_226 : decode cL_law 226 = .ok (.iconst 1, 1) := by decide +kernel
theorem dL_law_227 : decode cL_law 227 = .ok (.iadd, 1) := by decide +kernel
theorem dL_law_228 : decode cL_law 228 = .ok (.iaload, 1) := by decide +kernel
theorem dL_law_229 : decode cL_law 229 = .ok (.aload_n 0, 1) := by decide +kernel
theorem dL_law_230 : decode cL_law 230 = .ok (.iload_n 3, 1) := by decide +kernel
theorem dL_law_231 : decode cL_law 231 = .ok (.iconst 2, 1) := by decide +kernel
theorem dL_law_232 : decode cL_law 232 = .ok (.iadd, 1) := by decide +kernel
theorem dL_law_233 : decode cL_law 233 = .ok (.iaload, 1) := by decide +kernel
theorem dL_law_234 : decode cL_law 234 = .ok (.invokevirtual 47, 3) := by decide +kernel
theorem dL_law_237 : decode cL_law 237 = .ok (.if_icmp .eq 103, 3) := by decide +kernel
theorem dL_law_240 : decode cL_law 240 = .ok (.iconst 0, 1) := by decide +kernel
theorem dL_law_241 : decode cL_law 241 = .ok (.ireturn, 1) := by decide +kernel
theorem dL_law_242 : decode cL_law 242 = .ok (.aload_n 1, 1) := by decide +kernel
theorem dL_law_243 : decode cL_law 243 = .ok (.invokevirtual 48, 3) := by decide +kernel
theorem dL_law_246 : decode cL_law 246 = .ok (.aload_n 2, 1) := by decide +kernel
theorem dL_law_247 : decode cL_law 247 = .ok (.invokevirtual 51, 3) := by decide +kernel
theorem dL_law_250 : decode cL_law 250 = .ok (.if_icmp .eq 90, 3) := by decide +kernel
theorem dL_law_253 : decode cL_law 253 = .ok (.iconst 0, 1) := by decide +kernel
theorem dL_law_254 : decode cL_law 254 = .ok (.ireturn, 1) := by decide +kernel
theorem dL_law_255 : decode cL_law 255 = .ok (.aload_n 1, 1) := by decide +kernel
theorem dL_law_256 : decode cL_law 256 = .ok (.invokevirtual 52, 3) := by decide +kernel
theorem dL_law_259 : decode cL_law 259 = .ok (.aload_n 2, 1) := by decide +kernel
theorem dL_law_260 : decode cL_law 260 = .ok (.invokevirtual 55, 3) := by decide +kernel
theorem dL_law_263 : decode cL_law 263 = .ok (.if_icmp .eq 77, 3) := by decide +kernel
theorem dL_law_266 : decode cL_law 266 = .ok (.iconst 0, 1) := by decide +kernel
theorem dL_law_267 : decode cL_law 267 = .ok (.ireturn, 1) := by decide +kernel
theorem dL_law_268 : decode cL_law 268 = .ok (.aload_n 1, 1) := by decide +kernel
theorem dL_law_269 : decode cL_law 269 = .ok (.invokevirtual 56, 3) := by decide +kernel
theorem dL_law_272 : decode cL_law 272 = .ok (.aload_n 2, 1) := by decide +kernel
theorem dL_law_273 : decode cL_law 273 = .ok (.invokevirtual 59, 3) := by decide +kernel
theorem dL_law_276 : decode cL_law 276 = .ok (.if_icmp .eq 64, 3) := by decide +kernel
theorem dL_law_279 : decode cL_law 279 = .ok (.iconst 0, 1) := by decide +kernel
theorem dL_law_280 : decode cL_law 280 = .ok (.ireturn, 1) := by decide +kernel
theorem dL_law_281 : decode cL_law 281 = .ok (.aload_n 1, 1) := by decide +kernel
theorem dL_law_282 : decode cL_law 282 = .ok (.aload_n 0, 1) := by decide +kernel
theorem dL_law_283 : decode cL_law 283 = .ok (.iload_n 3, 1) := by decide +kernel
theorem dL_law_284 : decode cL_law 284 = .ok (.iconst 1, 1) := by decide +kernel
theorem dL_law_285 : decode cL_law 285 = .ok (.iadd, 1) := by decide +kernel
theorem dL_law_286 : decode cL_law 286 = .ok (.iaload, 1) := by decide +kernel
theorem dL_law_287 : decode cL_law 287 = .ok (.invokevirtual 60, 3) := by decide +kernel
theorem dL_law_290 : decode cL_law 290 = .ok (.aload_n 2, 1) := by decide +kernel
theorem dL_law_291 : decode cL_law 291 = .ok (.aload_n 0, 1) := by decide +kernel
theorem dL_law_292 : decode cL_law 292 = .ok (.iload_n 3, 1) := by decide +kernel
theorem dL_law_293 : decode cL_law 293 = .ok (.iconst 1, 1) := by decide +kernel
theorem dL_law_294 : decode cL_law 294 = .ok (.iadd, 1) := by decide +kernel
theorem dL_law_295 : decode cL_law 295 = .ok (.iaload, 1) := by decide +kernel
theorem dL_law_296 : decode cL_law 296 = .ok (.invokevirtual 63, 3) := by decide +kernel
theorem dL_law_299 : decode cL_law 299 = .ok (.if_icmp .eq 41, 3) := by decide +kernel
theorem dL_law_302 : decode cL_law 302 = .ok (.iconst 0, 1) := by decide +kernel
theorem dL_law_303 : decode cL_law 303 = .ok (.ireturn, 1) := by decide +kernel
theorem dL_law_304 : decode cL_law 304 = .ok (.aload_n 1, 1) := by decide +kernel
theorem dL_law_305 : decode cL_law 305 = .ok (.aload_n 0, 1) := by decide +kernel
theorem dL_law_306 : decode cL_law 306 = .ok (.iload_n 3, 1) := by decide +kernel
theorem dL_law_307 : decode cL_law 307 = .ok (.iconst 1, 1) := by decide +kernel
theorem dL_law_308 : decode cL_law 308 = .ok (.iadd, 1) := by decide +kernel
theorem dL_law_309 : decode cL_law 309 = .ok (.iaload, 1) := by decide +kernel
theorem dL_law_310 : decode cL_law 310 = .ok (.invokevirtual 64, 3) := by decide +kernel
theorem dL_law_313 : decode cL_law 313 = .ok (.aload_n 2, 1) := by decide +kernel
theorem dL_law_314 : decode cL_law 314 = .ok (.aload_n 0, 1) := by decide +kernel
theorem dL_law_315 : decode cL_law 315 = .ok (.iload_n 3, 1) := by decide +kernel
theorem dL_law_316 : decode cL_law 316 = .ok (.iconst 1, 1) := by decide +kernel
theorem dL_law_317 : decode cL_law 317 = .ok (.iadd, 1) := by decide +kernel
theorem dL_law_318 : decode cL_law 318 = .ok (.iaload, 1) := by decide +kernel
theorem dL_law_319 : decode cL_law 319 = .ok (.invokevirtual 67, 3) := by decide +kernel
theorem dL_law_322 : decode cL_law 322 = .ok (.if_icmp .eq 18, 3) := by decide +kernel
theorem dL_law_325 : decode cL_law 325 = .ok (.iconst 0, 1) := by decide +kernel
theorem dL_law_326 : decode cL_law 326 = .ok (.ireturn, 1) := by decide +kernel
theorem dL_law_327 : decode cL_law 327 = .ok (.aload_n 1, 1) := by decide +kernel
theorem dL_law_328 : decode cL_law 328 = .ok (.invokevirtual 68, 3) := by decide +kernel
theorem dL_law_331 : decode cL_law 331 = .ok (.aload_n 2, 1) := by decide +kernel
theorem dL_law_332 : decode cL_law 332 = .ok (.invokevirtual 71, 3) := by decide +kernel
theorem dL_law_335 : decode cL_law 335 = .ok (.if_icmp .eq 5, 3) := by decide +kernel
theorem dL_law_338 : decode cL_law 338 = .ok (.iconst 0, 1) := by decide +kernel
theorem dL_law_339 : decode cL_law 339 = .ok (.ireturn, 1) := by decide +kernel
theorem dL_law_340 : decode cL_law 340 = .ok (.iinc 3 3, 3) := by decide +kernel
theorem dL_law_343 : decode cL_law 343 = .ok (.goto (-315), 3) := by decide +kernel
theorem dL_law_346 : decode cL_law 346 = .ok (.iconst 1, 1) := by decide +kernel
theorem dL_law_347 : decode cL_law 347 = .ok (.ireturn, 1) := by decide +kernel
end
section
/-! GraphPolynomials -/
set_option maxRecDepth 100000
def RX1 : String := "GraphPolynomials"
def TX1 : u_T := fun k => match k with
  | 0 => ("GraphPolynomials", "pointCount", "I", false)
  | 1 => ("GraphPolynomials", "edgeCount", "I", false)
  | 2 => ("GraphPolynomials", "firstEnd", "[B", true)
  | 3 => ("GraphPolynomials", "secondEnd", "[B", true)
  | 4 => ("GraphPolynomials", "ready", "Z", false)
  | 5 => ("GraphPolynomials", "terms", "[I", true)
  | 6 => ("GraphPolynomials", "waiting", "I", false)
  | 7 => ("GraphPolynomials", "waitEdges", "[S", true)
  | 8 => ("GraphPolynomials", "waitPoints", "[I", true)
  | 9 => ("GraphPolynomials", "waitX", "[B", true)
  | _ => ("GraphPolynomials", "waitY", "[B", true)
def tyX1 : Nat → FieldType := fun k => match k with
  | 0 => .int
  | 1 => .int
  | 2 => .array .byte
  | 3 => .array .byte
  | 4 => .boolean
  | 5 => .array .int
  | 6 => .int
  | 7 => .array .short
  | 8 => .array .int
  | 9 => .array .byte
  | _ => .array .byte
abbrev wsX10 : List Cond := u_ws RX1 TX1 11
theorem nmX1 : ∀ a, a < 11 → ∀ b, b < 11 → a ≠ b → (TX1 a).2.1 ≠ (TX1 b).2.1 := by decide +kernel
theorem tyX1_ok : ∀ k, k < 11 → parseFieldDescriptor (TX1 k).2.2.1 = some (tyX1 k) := by decide +kernel
abbrev cX1_init : ByteArray := prog_1_method_1_code
def yX1_init : MethodName := ⟨RX1, "<init>", "(I)V"⟩
theorem dX1_init_0 : decode cX1_init 0 = .ok (.aload_n 0, 1) := by decide +kernel
theorem dX1_init_1 : decode cX1_init 1 = .ok (.invokespecial 1, 3) := by decide +kernel
theorem dX1_init_4 : decode cX1_init 4 = .ok (.aload_n 0, 1) := by decide +kernel
theorem dX1_init_5 : decode cX1_init 5 = .ok (.bipush 8, 2) := by decide +kernel
theorem dX1_init_7 : decode cX1_init 7 = .ok (.newarray .byte, 2) := by decide +kernel
theorem dX1_init_9 : decode cX1_init 9 = .ok (.putfield 7, 3) := by decide +kernel
theorem dX1_init_12 : decode cX1_init 12 = .ok (.aload_n 0, 1) := by decide +kernel
theorem dX1_init_13 : decode cX1_init 13 = .ok (.bipush 8, 2) := by decide +kernel
theorem dX1_init_15 : decode cX1_init 15 = .ok (.newarray .byte, 2) := by decide +kernel
theorem dX1_init_17 : decode cX1_init 17 = .ok (.putfield 13, 3) := by decide +kernel
theorem dX1_init_20 : decode cX1_init 20 = .ok (.aload_n 0, 1) := by decide +kernel
theorem dX1_init_21 : decode cX1_init 21 = .ok (.bipush 81, 2) := by decide +kernel
theorem dX1_init_23 : decode cX1_init 23 = .ok (.newarray .int, 2) := by decide +kernel
theorem dX1_init_25 : decode cX1_init 25 = .ok (.putfield 16, 3) := by decide +kernel
theorem dX1_init_28 : decode cX1_init 28 = .ok (.aload_n 0, 1) := by decide +kernel
theorem dX1_init_29 : decode cX1_init 29 = .ok (.bipush 12, 2) := by decide +kernel
theorem dX1_init_31 : decode cX1_init 31 = .ok (.newarray .short, 2) := by decide +kernel
theorem dX1_init_33 : decode cX1_init 33 = .ok (.putfield 20, 3) := by decide +kernel
theorem dX1_init_36 : decode cX1_init 36 = .ok (.aload_n 0, 1) := by decide +kernel
theorem dX1_init_37 : decode cX1_init 37 = .ok (.bipush 12, 2) := by decide +kernel
theorem dX1_init_39 : decode cX1_init 39 = .ok (.newarray .int, 2) := by decide +kernel
theorem dX1_init_41 : decode cX1_init 41 = .ok (.putfield 24, 3) := by decide +kernel
theorem dX1_init_44 : decode cX1_init 44 = .ok (.aload_n 0, 1) := by decide +kernel
theorem dX1_init_45 : decode cX1_init 45 = .ok (.bipush 12, 2) := by decide +kernel
theorem dX1_init_47 : decode cX1_init 47 = .ok (.newarray .byte, 2) := by decide +kernel
theorem dX1_init_49 : decode cX1_init 49 = .ok (.putfield 27, 3) := by decide +kernel
theorem dX1_init_52 : decode cX1_init 52 = .ok (.aload_n 0, 1) := by decide +kernel
theorem dX1_init_53 : decode cX1_init 53 = .ok (.bipush 12, 2) := by decide +kernel
theorem dX1_init_55 : decode cX1_init 55 = .ok (.newarray .byte, 2) := by decide +kernel
theorem dX1_init_57 : decode cX1_init 57 = .ok (.putfield 30, 3) := by decide +kernel
theorem dX1_init_60 : decode cX1_init 60 = .ok (.aload_n 0, 1) := by decide +kernel
theorem dX1_init_61 : decode cX1_init 61 = .ok (.iload_n 1, 1) := by decide +kernel
theorem dX1_init_62 : decode cX1_init 62 = .ok (.iconst 1, 1) := by decide +kernel
theorem dX1_init_63 : decode cX1_init 63 = .ok (.if_icmp .ge 7, 3) := by decide +kernel
theorem dX1_init_66 : decode cX1_init 66 = .ok (.iconst 1, 1) := by decide +kernel
theorem dX1_init_67 : decode cX1_init 67 = .ok (.goto 15, 3) := by decide +kernel
theorem dX1_init_70 : decode cX1_init 70 = .ok (.iload_n 1, 1) := by decide +kernel
theorem dX1_init_71 : decode cX1_init 71 = .ok (.bipush 6, 2) := by decide +kernel
theorem dX1_init_73 : decode cX1_init 73 = .ok (.if_icmp .le 8, 3) := by decide +kernel
theorem dX1_init_76 : decode cX1_init 76 = .ok (.bipush 6, 2) := by decide +kernel
theorem dX1_init_78 : decode cX1_init 78 = .ok (.goto 4, 3) := by decide +kernel
theorem dX1_init_81 : decode cX1_init 81 = .ok (.iload_n 1, 1) := by decide +kernel
theorem dX1_init_82 : decode cX1_init 82 = .ok (.putfield 33, 3) := by decide +kernel
theorem dX1_init_85 : decode cX1_init 85 = .ok (.return_, 1) := by decide +kernel
abbrev cX1_add : ByteArray := prog_1_method_2_code
def yX1_add : MethodName := ⟨RX1, "add", "(II)I"⟩
theorem dX1_add_0 : decode cX1_add 0 = .ok (.aload_n 0, 1) := by decide +kernel
theorem dX1_add_1 : decode cX1_add 1 = .ok (.getfield 37, 3) := by decide +kernel
theorem dX1_add_4 : decode cX1_add 4 = .ok (.bipush 8, 2) := by decide +kernel
theorem dX1_add_6 : decode cX1_add 6 = .ok (.if_icmp .lt 6, 3) := by decide +kernel
theorem dX1_add_9 : decode cX1_add 9 = .ok (.bipush (-2), 2) := by decide +kernel
theorem dX1_add_11 : decode cX1_add 11 = .ok (.ireturn, 1) := by decide +kernel
theorem dX1_add_12 : decode cX1_add 12 = .ok (.iload_n 1, 1) := by decide +kernel
theorem dX1_add_13 : decode cX1_add 13 = .ok (.ifCond .lt 23, 3) := by decide +kernel
theorem dX1_add_16 : decode cX1_add 16 = .ok (.iload_n 1, 1) := by decide +kernel
theorem dX1_add_17 : decode cX1_add 17 = .ok (.aload_n 0, 1) := by decide +kernel
theorem dX1_add_18 : decode cX1_add 18 = .ok (.getfield 33, 3) := by decide +kernel
theorem dX1_add_21 : decode cX1_add 21 = .ok (.if_icmp .ge 15, 3) := by decide +kernel
theorem dX1_add_24 : decode cX1_add 24 = .ok (.iload_n 2, 1) := by decide +kernel
theorem dX1_add_25 : decode cX1_add 25 = .ok (.ifCond .lt 11, 3) := by decide +kernel
theorem dX1_add_28 : decode cX1_add 28 = .ok (.iload_n 2, 1) := by decide +kernel
theorem dX1_add_29 : decode cX1_add 29 = .ok (.aload_n 0, 1) := by decide +kernel
theorem dX1_add_30 : decode cX1_add 30 = .ok (.getfield 33, 3) := by decide +kernel
theorem dX1_add_33 : decode cX1_add 33 = .ok (.if_icmp .lt 5, 3) := by decide +kernel
theorem dX1_add_36 : decode cX1_add 36 = .ok (.iconst (-1), 1) := by decide +kernel
theorem dX1_add_37 : decode cX1_add 37 = .ok (.ireturn, 1) := by decide +kernel
theorem dX1_add_38 : decode cX1_add 38 = .ok (.aload_n 0, 1) := by decide +kernel
theorem dX1_add_39 : decode cX1_add 39 = .ok (.getfield 7, 3) := by decide +kernel
theorem dX1_add_42 : decode cX1_add 42 = .ok (.aload_n 0, 1) := by decide +kernel
theorem dX1_add_43 : decode cX1_add 43 = .ok (.getfield 37, 3) := by decide +kernel
theorem dX1_add_46 : decode cX1_add 46 = .ok (.iload_n 1, 1) := by decide +kernel
theorem dX1_add_47 : decode cX1_add 47 = .ok (.i2b, 1) := by decide +kernel
theorem dX1_add_48 : decode cX1_add 48 = .ok (.bastore, 1) := by decide +kernel
theorem dX1_add_49 : decode cX1_add 49 = .ok (.aload_n 0, 1) := by decide +kernel
theorem dX1_add_50 : decode cX1_add 50 = .ok (.getfield 13, 3) := by decide +kernel
theorem dX1_add_53 : decode cX1_add 53 = .ok (.aload_n 0, 1) := by decide +kernel
theorem dX1_add_54 : decode cX1_add 54 = .ok (.getfield 37, 3) := by decide +kernel
theorem dX1_add_57 : decode cX1_add 57 = .ok (.iload_n 2, 1) := by decide +kernel
theorem dX1_add_58 : decode cX1_add 58 = .ok (.i2b, 1) := by decide +kernel
theorem dX1_add_59 : decode cX1_add 59 = .ok (.bastore, 1) := by decide +kernel
theorem dX1_add_60 : decode cX1_add 60 = .ok (.aload_n 0, 1) := by decide +kernel
theorem dX1_add_61 : decode cX1_add 61 = .ok (.dup, 1) := by decide +kernel
theorem dX1_add_62 : decode cX1_add 62 = .ok (.getfield 37, 3) := by decide +kernel
theorem dX1_add_65 : decode cX1_add 65 = .ok (.iconst 1, 1) := by decide +kernel
theorem dX1_add_66 : decode cX1_add 66 = .ok (.iadd, 1) := by decide +kernel
theorem dX1_add_67 : decode cX1_add 67 = .ok (.putfield 37, 3) := by decide +kernel
theorem dX1_add_70 : decode cX1_add 70 = .ok (.aload_n 0, 1) := by decide +kernel
theorem dX1_add_71 : decode cX1_add 71 = .ok (.iconst 0, 1) := by decide +kernel
theorem dX1_add_72 : decode cX1_add 72 = .ok (.putfield 40, 3) := by decide +kernel
theorem dX1_add_75 : decode cX1_add 75 = .ok (.aload_n 0, 1) := by decide +kernel
theorem dX1_add_76 : decode cX1_add 76 = .ok (.getfield 37, 3) := by decide +kernel
theorem dX1_add_79 : decode cX1_add 79 = .ok (.ireturn, 1) := by decide +kernel
abbrev cX1_drop : ByteArray := prog_1_method_3_code
def yX1_drop : MethodName := ⟨RX1, "drop", "(I)I"⟩
theorem dX1_drop_0 : decode cX1_drop 0 = .ok (.iload_n 1, 1) := by decide +kernel
theorem dX1_drop_1 : decode cX1_drop 1 = .ok (.ifCond .lt 11, 3) := by decide +kernel
theorem dX1_drop_4 : decode cX1_drop 4 = .ok (.iload_n 1, 1) := by decide +kernel
theorem dX1_drop_5 : decode cX1_drop 5 = .ok (.aload_n 0, 1) := by decide +kernel
theorem dX1_drop_6 : decode cX1_drop 6 = .ok (.getfield 37, 3) := by decide +kernel
theorem dX1_drop_9 : decode cX1_drop 9 = .ok (.if_icmp .lt 5, 3) := by decide +kernel
theorem dX1_drop_12 : decode cX1_drop 12 = .ok (.iconst (-1), 1) := by decide +kernel
theorem dX1_drop_13 : decode cX1_drop 13 = .ok (.ireturn, 1) := by decide +kernel
theorem dX1_drop_14 : decode cX1_drop 14 = .ok (.aload_n 0, 1) := by decide +kernel
theorem dX1_drop_15 : decode cX1_drop 15 = .ok (.dup, 1) := by decide +kernel
theorem dX1_drop_16 : decode cX1_drop 16 = .ok (.getfield 37, 3) := by decide +kernel
theorem dX1_drop_19 : decode cX1_drop 19 = .ok (.iconst 1, 1) := by decide +kernel
theorem dX1_drop_20 : decode cX1_drop 20 = .ok (.isub, 1) := by decide +kernel
theorem dX1_drop_21 : decode cX1_drop 21 = .ok (.putfield 37, 3) := by decide +kernel
theorem dX1_drop_24 : decode cX1_drop 24 = .ok (.iload_n 1, 1) := by decide +kernel
theorem dX1_drop_25 : decode cX1_drop 25 = .ok (.istore_n 2, 1) := by decide +kernel
theorem dX1_drop_26 : decode cX1_drop 26 = .ok (.iload_n 2, 1) := by decide +kernel
theorem dX1_drop_27 : decode cX1_drop 27 = .ok (.aload_n 0, 1) := by decide +kernel
theorem dX1_drop_28 : decode cX1_drop 28 = .ok (.getfield 37, 3) := by decide +kernel
theorem dX1_drop_31 : decode cX1_drop 31 = .ok (.if_icmp .ge 37, 3) := by decide +kernel
theorem dX1_drop_34 : decode cX1_drop 34 = .ok (.aload_n 0, 1) := by decide +kernel
theorem dX1_drop_35 : decode cX1_drop 35 = .ok (.getfield 7, 3) := by decide +kernel
theorem dX1_drop_38 : decode cX1_drop 38 = .ok (.iload_n 2, 1) := by decide +kernel
theorem dX1_drop_39 : decode cX1_drop 39 = .ok (.aload_n 0, 1) := by decide +kernel
theorem dX1_drop_40 : decode cX1_drop 40 = .ok (.getfield 7, 3) := by decide +kernel
theorem dX1_drop_43 : decode cX1_drop 43 = .ok (.iload_n 2, 1) := by decide +kernel
theorem dX1_drop_44 : decode cX1_drop 44 = .ok (.iconst 1, 1) := by decide +kernel
theorem dX1_drop_45 : decode cX1_drop 45 = .ok (.iadd, 1) := by decide +kernel
theorem dX1_drop_46 : decode cX1_drop 46 = .ok (.baload, 1) := by decide +kernel
theorem dX1_drop_47 : decode cX1_drop 47 = .ok (.bastore, 1) := by decide +kernel
theorem dX1_drop_48 : decode cX1_drop 48 = .ok (.aload_n 0, 1) := by decide +kernel
theorem dX1_drop_49 : decode cX1_drop 49 = .ok (.getfield 13, 3) := by decide +kernel
theorem dX1_drop_52 : decode cX1_drop 52 = .ok (.iload_n 2, 1) := by decide +kernel
theorem dX1_drop_53 : decode cX1_drop 53 = .ok (.aload_n 0, 1) := by decide +kernel
theorem dX1_drop_54 : decode cX1_drop 54 = .ok (.getfield 13, 3) := by decide +kernel
theorem dX1_drop_57 : decode cX1_drop 57 = .ok (.iload_n 2, 1) := by decide +kernel
theorem dX1_drop_58 : decode cX1_drop 58 = .ok (.iconst 1, 1) := by decide +kernel
theorem dX1_drop_59 : decode cX1_drop 59 = .ok (.iadd, 1) := by decide +kernel
theorem dX1_drop_60 : decode cX1_drop 60 = .ok (.baload, 1) := by decide +kernel
theorem dX1_drop_61 : decode cX1_drop 61 = .ok (.bastore, 1) := by decide +kernel
theorem dX1_drop_62 : decode cX1_drop 62 = .ok (.iinc 2 1, 3) := by decide +kernel
theorem dX1_drop_65 : decode cX1_drop 65 = .ok (.goto (-39), 3) := by decide +kernel
theorem dX1_drop_68 : decode cX1_drop 68 = .ok (.aload_n 0, 1) := by decide +kernel
theorem dX1_drop_69 : decode cX1_drop 69 = .ok (.iconst 0, 1) := by decide +kernel
theorem dX1_drop_70 : decode cX1_drop 70 = .ok (.putfield 40, 3) := by decide +kernel
theorem dX1_drop_73 : decode cX1_drop 73 = .ok (.aload_n 0, 1) := by decide +kernel
theorem dX1_drop_74 : decode cX1_drop 74 = .ok (.getfield 37, 3) := by decide +kernel
theorem dX1_drop_77 : decode cX1_drop 77 = .ok (.ireturn, 1) := by decide +kernel
abbrev cX1_merge : ByteArray := prog_1_method_4_code
def yX1_merge : MethodName := ⟨RX1, "merge", "(I)I"⟩
theorem dX1_merge_0 : decode cX1_merge 0 = .ok (.iload_n 1, 1) := by decide +kernel
theorem dX1_merge_1 : decode cX1_merge 1 = .ok (.ifCond .lt 11, 3) := by decide +kernel
theorem dX1_merge_4 : decode cX1_merge 4 = .ok (.iload_n 1, 1) := by decide +kernel
theorem dX1_merge_5 : decode cX1_merge 5 = .ok (.aload_n 0, 1) := by decide +kernel
theorem dX1_merge_6 : decode cX1_merge 6 = .ok (.getfield 37, 3) := by decide +kernel
theorem dX1_merge_9 : decode cX1_merge 9 = .ok (.if_icmp .lt 5, 3) := by decide +kernel
theorem dX1_merge_12 : decode cX1_merge 12 = .ok (.iconst (-1), 1) := by decide +kernel
theorem dX1_merge_13 : decode cX1_merge 13 = .ok (.ireturn, 1) := by decide +kernel
theorem dX1_merge_14 : decode cX1_merge 14 = .ok (.aload_n 0, 1) := by decide +kernel
theorem dX1_merge_15 : decode cX1_merge 15 = .ok (.getfield 7, 3) := by decide +kernel
theorem dX1_merge_18 : decode cX1_merge 18 = .ok (.iload_n 1, 1) := by decide +kernel
theorem dX1_merge_19 : decode cX1_merge 19 = .ok (.baload, 1) := by decide +kernel
theorem dX1_merge_20 : decode cX1_merge 20 = .ok (.istore_n 2, 1) := by decide +kernel
theorem dX1_merge_21 : decode cX1_merge 21 = .ok (.aload_n 0, 1) := by decide +kernel
theorem dX1_merge_22 : decode cX1_merge 22 = .ok (.getfield 13, 3) := by decide +kernel
theorem dX1_merge_25 : decode cX1_merge 25 = .ok (.iload_n 1, 1) := by decide +kernel
theorem dX1_merge_26 : decode cX1_merge 26 = .ok (.baload, 1) := by decide +kernel
theorem dX1_merge_27 : decode cX1_merge 27 = .ok (.istore_n 3, 1) := by decide +kernel
theorem dX1_merge_28 : decode cX1_merge 28 = .ok (.iload_n 2, 1) := by decide +kernel
theorem dX1_merge_29 : decode cX1_merge 29 = .ok (.iload_n 3, 1) := by decide +kernel
theorem dX1_merge_30 : decode cX1_merge 30 = .ok (.if_icmp .ge 7, 3) := by decide +kernel
theorem dX1_merge_33 : decode cX1_merge 33 = .ok (.iload_n 2, 1) := by decide +kernel
theorem dX1_merge_34 : decode cX1_merge 34 = .ok (.goto 4, 3) := by decide +kernel
theorem dX1_merge_37 : decode cX1_merge 37 = .ok (.iload_n 3, 1) := by decide +kernel
theorem dX1_merge_38 : decode cX1_merge 38 = .ok (.istore 4, 2) := by decide +kernel
theorem dX1_merge_40 : decode cX1_merge 40 = .ok (.iload_n 2, 1) := by decide +kernel
theorem dX1_merge_41 : decode cX1_merge 41 = .ok (.iload_n 3, 1) := by decide +kernel
theorem dX1_merge_42 : decode cX1_merge 42 = .ok (.if_icmp .ge 7, 3) := by decide +kernel
theorem dX1_merge_45 : decode cX1_merge 45 = .ok (.iload_n 3, 1) := by decide +kernel
theorem dX1_merge_46 : decode cX1_merge 46 = .ok (.goto 4, 3) := by decide +kernel
theorem dX1_merge_49 : decode cX1_merge 49 = .ok (.iload_n 2, 1) := by decide +kernel
theorem dX1_merge_50 : decode cX1_merge 50 = .ok (.istore 5, 2) := by decide +kernel
theorem dX1_merge_52 : decode cX1_merge 52 = .ok (.aload_n 0, 1) := by decide +kernel
theorem dX1_merge_53 : decode cX1_merge 53 = .ok (.iload_n 1, 1) := by decide +kernel
theorem dX1_merge_54 : decode cX1_merge 54 = .ok (.invokevirtual 44, 3) := by decide +kernel
theorem dX1_merge_57 : decode cX1_merge 57 = .ok (.pop, 1) := by decide +kernel
theorem dX1_merge_58 : decode cX1_merge 58 = .ok (.iconst 0, 1) := by decide +kernel
theorem dX1_merge_59 : decode cX1_merge 59 = .ok (.istore 6, 2) := by decide +kernel
theorem dX1_merge_61 : decode cX1_merge 61 = .ok (.iload 6, 2) := by decide +kernel
theorem dX1_merge_63 : decode cX1_merge 63 = .ok (.aload_n 0, 1) := by decide +kernel
theorem dX1_merge_64 : decode cX1_merge 64 = .ok (.getfield 37, 3) := by decide +kernel
theorem dX1_merge_67 : decode cX1_merge 67 = .ok (.if_icmp .ge 53, 3) := by decide +kernel
theorem dX1_merge_70 : decode cX1_merge 70 = .ok (.aload_n 0, 1) := by decide +kernel
theorem dX1_merge_71 : decode cX1_merge 71 = .ok (.getfield 7, 3) := by decide +kernel
theorem dX1_merge_74 : decode cX1_merge 74 = .ok (.iload 6, 2) := by decide +kernel
theorem dX1_merge_76 : decode cX1_merge 76 = .ok (.baload, 1) := by decide +kernel
theorem dX1_merge_77 : decode cX1_merge 77 = .ok (.iload 5, 2) := by decide +kernel
theorem dX1_merge_79 : decode cX1_merge 79 = .ok (.if_icmp .ne 13, 3) := by decide +kernel
theorem dX1_merge_82 : decode cX1_merge 82 = .ok (.aload_n 0, 1) := by decide +kernel
theorem dX1_merge_83 : decode cX1_merge 83 = .ok (.getfield 7, 3) := by decide +kernel
theorem dX1_merge_86 : decode cX1_merge 86 = .ok (.iload 6, 2) := by decide +kernel
theorem dX1_merge_88 : decode cX1_merge 88 = .ok (.iload 4, 2) := by decide +kernel
theorem dX1_merge_90 : decode cX1_merge 90 = .ok (.i2b, 1) := by decide +kernel
theorem dX1_merge_91 : decode cX1_merge 91 = .ok (.bastore, 1) := by decide +kernel
theorem dX1_merge_92 : decode cX1_merge 92 = .ok (.aload_n 0, 1) := by decide +kernel
theorem dX1_merge_93 : decode cX1_merge 93 = .ok (.getfield 13, 3) := by decide +kernel
theorem dX1_merge_96 : decode cX1_merge 96 = .ok (.iload 6, 2) := by decide +kernel
theorem dX1_merge_98 : decode cX1_merge 98 = .ok (.baload, 1) := by decide +kernel
theorem dX1_merge_99 : decode cX1_merge 99 = .ok (.iload 5, 2) := by decide +kernel
theorem dX1_merge_101 : decode cX1_merge 101 = .ok (.if_icmp .ne 13, 3) := by decide +kernel
theorem dX1_merge_104 : decode cX1_merge 104 = .ok (.aload_n 0, 1) := by decide +kernel
theorem dX1_merge_105 : decode cX1_merge 105 = .ok (.getfield 13, 3) := by decide +kernel
theorem dX1_merge_108 : decode cX1_merge 108 = .ok (.iload 6, 2) := by decide +kernel
theorem dX1_merge_110 : decode cX1_merge 110 = .ok (.iload 4, 2) := by decide +kernel
theorem dX1_merge_112 : decode cX1_merge 112 = .ok (.i2b, 1) := by decide +kernel
theorem dX1_merge_113 : decode cX1_merge 113 = .ok (.bastore, 1) := by decide +kernel
theorem dX1_merge_114 : decode cX1_merge 114 = .ok (.iinc 6 1, 3) := by decide +kernel
theorem dX1_merge_117 : decode cX1_merge 117 = .ok (.goto (-56), 3) := by decide +kernel
theorem dX1_merge_120 : decode cX1_merge 120 = .ok (.aload_n 0, 1) := by decide +kernel
theorem dX1_merge_121 : decode cX1_merge 121 = .ok (.getfield 37, 3) := by decide +kernel
theorem dX1_merge_124 : decode cX1_merge 124 = .ok (.ireturn, 1) := by decide +kernel
abbrev cX1_edges : ByteArray := prog_1_method_5_code
def yX1_edges : MethodName := ⟨RX1, "edges", "()I"⟩
theorem dX1_edges_0 : decode cX1_edges 0 = .ok (.aload_n 0, 1) := by decide +kernel
theorem dX1_edges_1 : decode cX1_edges 1 = .ok (.getfield 37, 3) := by decide +kernel
theorem dX1_edges_4 : decode cX1_edges 4 = .ok (.ireturn, 1) := by decide +kernel
abbrev cX1_parts : ByteArray := prog_1_method_6_code
def yX1_parts : MethodName := ⟨RX1, "parts", "()I"⟩
theorem dX1_parts_0 : decode cX1_parts 0 = .ok (.aload_n 0, 1) := by decide +kernel
theorem dX1_parts_1 : decode cX1_parts 1 = .ok (.invokevirtual 48, 3) := by decide +kernel
theorem dX1_parts_4 : decode cX1_parts 4 = .ok (.istore_n 1, 1) := by decide +kernel
theorem dX1_parts_5 : decode cX1_parts 5 = .ok (.aload_n 0, 1) := by decide +kernel
theorem dX1_parts_6 : decode cX1_parts 6 = .ok (.iconst 1, 1) := by decide +kernel
theorem dX1_parts_7 : decode cX1_parts 7 = .ok (.aload_n 0, 1) := by decide +kernel
theorem dX1_parts_8 : decode cX1_parts 8 = .ok (.getfield 37, 3) := by decide +kernel
theorem dX1_parts_11 : decode cX1_parts 11 = .ok (.ishl, 1) := by decide +kernel
theorem dX1_parts_12 : decode cX1_parts 12 = .ok (.iconst 1, 1) := by decide +kernel
theorem dX1_parts_13 : decode cX1_parts 13 = .ok (.isub, 1) := by decide +kernel
theorem dX1_parts_14 : decode cX1_parts 14 = .ok (.iload_n 1, 1) := by decide +kernel
theorem dX1_parts_15 : decode cX1_parts 15 = .ok (.invokevirtual 52, 3) := by decide +kernel
theorem dX1_parts_18 : decode cX1_parts 18 = .ok (.istore_n 1, 1) := by decide +kernel
theorem dX1_parts_19 : decode cX1_parts 19 = .ok (.iconst 0, 1) := by decide +kernel
theorem dX1_parts_20 : decode cX1_parts 20 = .ok (.istore_n 2, 1) := by decide +kernel
theorem dX1_parts_21 : decode cX1_parts 21 = .ok (.iconst 0, 1) := by decide +kernel
theorem dX1_parts_22 : decode cX1_parts 22 = .ok (.istore_n 3, 1) := by decide +kernel
theorem dX1_parts_23 : decode cX1_parts 23 = .ok (.iload_n 3, 1) := by decide +kernel
theorem dX1_parts_24 : decode cX1_parts 24 = .ok (.aload_n 0, 1) := by decide +kernel
theorem dX1_parts_25 : decode cX1_parts 25 = .ok (.getfield 33, 3) := by decide +kernel
theorem dX1_parts_28 : decode cX1_parts 28 = .ok (.if_icmp .ge 24, 3) := by decide +kernel
theorem dX1_parts_31 : decode cX1_parts 31 = .ok (.iload_n 1, 1) := by decide +kernel
theorem dX1_parts_32 : decode cX1_parts 32 = .ok (.iconst 3, 1) := by decide +kernel
theorem dX1_parts_33 : decode cX1_parts 33 = .ok (.iload_n 3, 1) := by decide +kernel
theorem dX1_parts_34 : decode cX1_parts 34 = .ok (.imul, 1) := by decide +kernel
theorem dX1_parts_35 : decode cX1_parts 35 = .ok (.ishr, 1) := by decide +kernel
theorem dX1_parts_36 : decode cX1_parts 36 = .ok (.bipush 7, 2) := by decide +kernel
theorem dX1_parts_38 : decode cX1_parts 38 = .ok (.iand, 1) := by decide +kernel
theorem dX1_parts_39 : decode cX1_parts 39 = .ok (.iload_n 3, 1) := by decide +kernel
theorem dX1_parts_40 : decode cX1_parts 40 = .ok (.if_icmp .ne 6, 3) := by decide +kernel
theorem dX1_parts_43 : decode cX1_parts 43 = .ok (.iinc 2 1, 3) := by decide +kernel
theorem dX1_parts_46 : decode cX1_parts 46 = .ok (.iinc 3 1, 3) := by decide +kernel
theorem dX1_parts_49 : decode cX1_parts 49 = .ok (.goto (-26), 3) := by decide +kernel
theorem dX1_parts_52 : decode cX1_parts 52 = .ok (.iload_n 2, 1) := by decide +kernel
theorem dX1_parts_53 : decode cX1_parts 53 = .ok (.ireturn, 1) := by decide +kernel
abbrev cX1_startPoints : ByteArray := prog_1_method_15_code
def yX1_startPoints : MethodName := ⟨RX1, "startPoints", "()I"⟩
theorem dX1_startPoints_0 : decode cX1_startPoints 0 = .ok (.iconst 0, 1) := by decide +kernel
theorem dX1_startPoints_1 : decode cX1_startPoints 1 = .ok (.istore_n 1, 1) := by decide +kernel
theorem dX1_startPoints_2 : decode cX1_startPoints 2 = .ok (.iconst 0, 1) := by decide +kernel
theorem dX1_startPoints_3 : decode cX1_startPoints 3 = .ok (.istore_n 2, 1) := by decide +kernel
theorem dX1_startPoints_4 : decode cX1_startPoints 4 = .ok (.iload_n 2, 1) := by decide +kernel
theorem dX1_startPoints_5 : decode cX1_startPoints 5 = .ok (.aload_n 0, 1) := by decide +kernel
theorem dX1_startPoints_6 : decode cX1_startPoints 6 = .ok (.getfield 33, 3) := by decide +kernel
theorem dX1_startPoints_9 : decode cX1_startPoints 9 = .ok (.if_icmp .ge 17, 3) := by decide +kernel
theorem dX1_startPoints_12 : decode cX1_startPoints 12 = .ok (.iload_n 1, 1) := by decide +kernel
theorem dX1_startPoints_13 : decode cX1_startPoints 13 = .ok (.iload_n 2, 1) := by decide +kernel
theorem dX1_startPoints_14 : decode cX1_startPoints 14 = .ok (.iconst 3, 1) := by decide +kernel
theorem dX1_startPoints_15 : decode cX1_startPoints 15 = .ok (.iload_n 2, 1) := by decide +kernel
theorem dX1_startPoints_16 : decode cX1_startPoints 16 = .ok (.imul, 1) := by decide +kernel
theorem dX1_startPoints_17 : decode cX1_startPoints 17 = .ok (.ishl, 1) := by decide +kernel
theorem dX1_startPoints_18 : decode cX1_startPoints 18 = .ok (.ior, 1) := by decide +kernel
theorem dX1_startPoints_19 : decode cX1_startPoints 19 = .ok (.istore_n 1, 1) := by decide +kernel
theorem dX1_startPoints_20 : decode cX1_startPoints 20 = .ok (.iinc 2 1, 3) := by decide +kernel
theorem dX1_startPoints_23 : decode cX1_startPoints 23 = .ok (.goto (-19), 3) := by decide +kernel
theorem dX1_startPoints_26 : decode cX1_startPoints 26 = .ok (.iload_n 1, 1) := by decide +kernel
theorem dX1_startPoints_27 : decode cX1_startPoints 27 = .ok (.ireturn, 1) := by decide +kernel
abbrev cX1_drawnTogether : ByteArray := prog_1_method_18_code
def yX1_drawnTogether : MethodName := ⟨RX1, "drawnTogether", "(II)I"⟩
theorem dX1_drawnTogether_0 : decode cX1_drawnTogether 0 = .ok (.iload_n 2, 1) := by decide +kernel
theorem dX1_drawnTogether_1 : decode cX1_drawnTogether 1 = .ok (.istore_n 3, 1) := by decide +kernel
theorem dX1_drawnTogether_2 : decode cX1_drawnTogether 2 = .ok (.iconst 0, 1) := by decide +kernel
theorem dX1_drawnTogether_3 : decode cX1_drawnTogether 3 = .ok (.istore 4, 2) := by decide +kernel
theorem dX1_drawnTogether_5 : decode cX1_drawnTogether 5 = .ok (.iload 4, 2) := by decide +kernel
theorem dX1_drawnTogether_7 : decode cX1_drawnTogether 7 = .ok (.aload_n 0, 1) := by decide +kernel
theorem dX1_drawnTogether_8 : decode cX1_drawnTogether 8 = .ok (.getfield 37, 3) := by decide +kernel
theorem dX1_drawnTogether_11 : decode cX1_drawnTogether 11 = .ok (.if_icmp .ge 66, 3) := by decide +kernel
theorem dX1_drawnTogether_14 : decode cX1_drawnTogether 14 = .ok (.iload_n 1, 1) := by decide +kernel
theorem dX1_drawnTogether_15 : decode cX1_drawnTogether 15 = .ok (.iload 4, 2) := by decide +kernel
theorem dX1_drawnTogether_17 : decode cX1_drawnTogether 17 = .ok (.ishr, 1) := by decide +kernel
theorem dX1_drawnTogether_18 : decode cX1_drawnTogether 18 = .ok (.iconst 1, 1) := by decide +kernel
theorem dX1_drawnTogether_19 : decode cX1_drawnTogether 19 = .ok (.iand, 1) := by decide +kernel
theorem dX1_drawnTogether_20 : decode cX1_drawnTogether 20 = .ok (.ifCond .ne 6, 3) := by decide +kernel
theorem dX1_drawnTogether_23 : decode cX1_drawnTogether 23 = .ok (.goto 48, 3) := by decide +kernel
theorem dX1_drawnTogether_26 : decode cX1_drawnTogether 26 = .ok (.aload_n 0, 1) := by decide +kernel
theorem dX1_drawnTogether_27 : decode cX1_drawnTogether 27 = .ok (.iload_n 3, 1) := by decide +kernel
theorem dX1_drawnTogether_28 : decode cX1_drawnTogether 28 = .ok (.aload_n 0, 1) := by decide +kernel
theorem dX1_drawnTogether_29 : decode cX1_drawnTogether 29 = .ok (.getfield 7, 3) := by decide +kernel
theorem dX1_drawnTogether_32 : decode cX1_drawnTogether 32 = .ok (.iload 4, 2) := by decide +kernel
theorem dX1_drawnTogether_34 : decode cX1_drawnTogether 34 = .ok (.baload, 1) := by decide +kernel
theorem dX1_drawnTogether_35 : decode cX1_drawnTogether 35 = .ok (.invokevirtual 65, 3) := by decide +kernel
theorem dX1_drawnTogether_38 : decode cX1_drawnTogether 38 = .ok (.istore 5, 2) := by decide +kernel
theorem dX1_drawnTogether_40 : decode cX1_drawnTogether 40 = .ok (.aload_n 0, 1) := by decide +kernel
theorem dX1_drawnTogether_41 : decode cX1_drawnTogether 41 = .ok (.iload_n 3, 1) := by decide +kernel
theorem dX1_drawnTogether_42 : decode cX1_drawnTogether 42 = .ok (.aload_n 0, 1) := by decide +kernel
theorem dX1_drawnTogether_43 : decode cX1_drawnTogether 43 = .ok (.getfield 13, 3) := by decide +kernel
theorem dX1_drawnTogether_46 : decode cX1_drawnTogether 46 = .ok (.iload 4, 2) := by decide +kernel
theorem dX1_drawnTogether_48 : decode cX1_drawnTogether 48 = .ok (.baload, 1) := by decide +kernel
theorem dX1_drawnTogether_49 : decode cX1_drawnTogether 49 = .ok (.invokevirtual 65, 3) := by decide +kernel
theorem dX1_drawnTogether_52 : decode cX1_drawnTogether 52 = .ok (.istore 6, 2) := by decide +kernel
theorem dX1_drawnTogether_54 : decode cX1_drawnTogether 54 = .ok (.iload 5, 2) := by decide +kernel
theorem dX1_drawnTogether_56 : decode cX1_drawnTogether 56 = .ok (.iload 6, 2) := by decide +kernel
theorem dX1_drawnTogether_58 : decode cX1_drawnTogether 58 = .ok (.if_icmp .eq 13, 3) := by decide +kernel
theorem dX1_drawnTogether_61 : decode cX1_drawnTogether 61 = .ok (.aload_n 0, 1) := by decide +kernel
theorem dX1_drawnTogether_62 : decode cX1_drawnTogether 62 = .ok (.iload_n 3, 1) := by decide +kernel
theorem dX1_drawnTogether_63 : decode cX1_drawnTogether 63 = .ok (.iload 5, 2) := by decide +kernel
theorem dX1_drawnTogether_65 : decode cX1_drawnTogether 65 = .ok (.iload 6, 2) := by decide +kernel
theorem dX1_drawnTogether_67 : decode cX1_drawnTogether 67 = .ok (.invokevirtual 68, 3) := by decide +kernel
theorem dX1_drawnTogether_70 : decode cX1_drawnTogether 70 = .ok (.istore_n 3, 1) := by decide +kernel
theorem dX1_drawnTogether_71 : decode cX1_drawnTogether 71 = .ok (.iinc 4 1, 3) := by decide +kernel
theorem dX1_drawnTogether_74 : decode cX1_drawnTogether 74 = .ok (.goto (-69), 3) := by decide +kernel
theorem dX1_drawnTogether_77 : decode cX1_drawnTogether 77 = .ok (.iload_n 3, 1) := by decide +kernel
theorem dX1_drawnTogether_78 : decode cX1_drawnTogether 78 = .ok (.ireturn, 1) := by decide +kernel
abbrev cX1_pointOf : ByteArray := prog_1_method_16_code
def yX1_pointOf : MethodName := ⟨RX1, "pointOf", "(II)I"⟩
theorem dX1_pointOf_0 : decode cX1_pointOf 0 = .ok (.iload_n 1, 1) := by decide +kernel
theorem dX1_pointOf_1 : decode cX1_pointOf 1 = .ok (.iconst 3, 1) := by decide +kernel
theorem dX1_pointOf_2 : decode cX1_pointOf 2 = .ok (.iload_n 2, 1) := by decide +kernel
theorem dX1_pointOf_3 : decode cX1_pointOf 3 = .ok (.imul, 1) := by decide +kernel
theorem dX1_pointOf_4 : decode cX1_pointOf 4 = .ok (.ishr, 1) := by decide +kernel
theorem dX1_pointOf_5 : decode cX1_pointOf 5 = .ok (.bipush 7, 2) := by decide +kernel
theorem dX1_pointOf_7 : decode cX1_pointOf 7 = .ok (.iand, 1) := by decide +kernel
theorem dX1_pointOf_8 : decode cX1_pointOf 8 = .ok (.ireturn, 1) := by decide +kernel
abbrev cX1_joined : ByteArray := prog_1_method_17_code
def yX1_joined : MethodName := ⟨RX1, "joined", "(III)I"⟩
theorem dX1_joined_0 : decode cX1_joined 0 = .ok (.iload_n 2, 1) := by decide +kernel
theorem dX1_joined_1 : decode cX1_joined 1 = .ok (.iload_n 3, 1) := by decide +kernel
theorem dX1_joined_2 : decode cX1_joined 2 = .ok (.if_icmp .ge 7, 3) := by decide +kernel
theorem dX1_joined_5 : decode cX1_joined 5 = .ok (.iload_n 2, 1) := by decide +kernel
theorem dX1_joined_6 : decode cX1_joined 6 = .ok (.goto 4, 3) := by decide +kernel
theorem dX1_joined_9 : decode cX1_joined 9 = .ok (.iload_n 3, 1) := by decide +kernel
theorem dX1_joined_10 : decode cX1_joined 10 = .ok (.istore 4, 2) := by decide +kernel
theorem dX1_joined_12 : decode cX1_joined 12 = .ok (.iload_n 2, 1) := by decide +kernel
theorem dX1_joined_13 : decode cX1_joined 13 = .ok (.iload_n 3, 1) := by decide +kernel
theorem dX1_joined_14 : decode cX1_joined 14 = .ok (.if_icmp .ge 7, 3) := by decide +kernel
theorem dX1_joined_17 : decode cX1_joined 17 = .ok (.iload_n 3, 1) := by decide +kernel
theorem dX1_joined_18 : decode cX1_joined 18 = .ok (.goto 4, 3) := by decide +kernel
theorem dX1_joined_21 : decode cX1_joined 21 = .ok (.iload_n 2, 1) := by decide +kernel
theorem dX1_joined_22 : decode cX1_joined 22 = .ok (.istore 5, 2) := by decide +kernel
theorem dX1_joined_24 : decode cX1_joined 24 = .ok (.iconst 0, 1) := by decide +kernel
theorem dX1_joined_25 : decode cX1_joined 25 = .ok (.istore 6, 2) := by decide +kernel
theorem dX1_joined_27 : decode cX1_joined 27 = .ok (.iconst 0, 1) := by decide +kernel
theorem dX1_joined_28 : decode cX1_joined 28 = .ok (.istore 7, 2) := by decide +kernel
theorem dX1_joined_30 : decode cX1_joined 30 = .ok (.iload 7, 2) := by decide +kernel
theorem dX1_joined_32 : decode cX1_joined 32 = .ok (.aload_n 0, 1) := by decide +kernel
theorem dX1_joined_33 : decode cX1_joined 33 = .ok (.getfield 33, 3) := by decide +kernel
theorem dX1_joined_36 : decode cX1_joined 36 = .ok (.if_icmp .ge 44, 3) := by decide +kernel
theorem dX1_joined_39 : decode cX1_joined 39 = .ok (.iload_n 1, 1) := by decide +kernel
theorem dX1_joined_40 : decode cX1_joined 40 = .ok (.iconst 3, 1) := by decide +kernel
theorem dX1_joined_41 : decode cX1_joined 41 = .ok (.iload 7, 2) := by decide +kernel
theorem dX1_joined_43 : decode cX1_joined 43 = .ok (.imul, 1) := by decide +kernel
theorem dX1_joined_44 : decode cX1_joined 44 = .ok (.ishr, 1) := by decide +kernel
theorem dX1_joined_45 : decode cX1_joined 45 = .ok (.bipush 7, 2) := by decide +kernel
theorem dX1_joined_47 : decode cX1_joined 47 = .ok (.iand, 1) := by decide +kernel
theorem dX1_joined_48 : decode cX1_joined 48 = .ok (.istore 8, 2) := by decide +kernel
theorem dX1_joined_50 : decode cX1_joined 50 = .ok (.iload 6, 2) := by decide +kernel
theorem dX1_joined_52 : decode cX1_joined 52 = .ok (.iload 8, 2) := by decide +kernel
theorem dX1_joined_54 : decode cX1_joined 54 = .ok (.iload 5, 2) := by decide +kernel
theorem dX1_joined_56 : decode cX1_joined 56 = .ok (.if_icmp .ne 8, 3) := by decide +kernel
theorem dX1_joined_59 : decode cX1_joined 59 = .ok (.iload 4, 2) := by decide +kernel
theorem dX1_joined_61 : decode cX1_joined 61 = .ok (.goto 5, 3) := by decide +kernel
theorem dX1_joined_64 : decode cX1_joined 64 = .ok (.iload 8, 2) := by decide +kernel
theorem dX1_joined_66 : decode cX1_joined 66 = .ok (.iconst 3, 1) := by decide +kernel
theorem dX1_joined_67 : decode cX1_joined 67 = .ok (.iload 7, 2) := by decide +kernel
theorem dX1_joined_69 : decode cX1_joined 69 = .ok (.imul, 1) := by decide +kernel
theorem dX1_joined_70 : decode cX1_joined 70 = .ok (.ishl, 1) := by decide +kernel
theorem dX1_joined_71 : decode cX1_joined 71 = .ok (.ior, 1) := by decide +kernel
theorem dX1_joined_72 : decode cX1_joined 72 = .ok (.istore 6, 2) := by decide +kernel
theorem dX1_joined_74 : decode cX1_joined 74 = .ok (.iinc 7 1, 3) := by decide +kernel
theorem dX1_joined_77 : decode cX1_joined 77 = .ok (.goto (-47), 3) := by decide +kernel
theorem dX1_joined_80 : decode cX1_joined 80 = .ok (.iload 6, 2) := by decide +kernel
theorem dX1_joined_82 : decode cX1_joined 82 = .ok (.ireturn, 1) := by decide +kernel
end
section
set_option maxRecDepth 100000
abbrev cX1_coefficient : ByteArray := prog_1_method_7_code
def yX1_coefficient : MethodName := ⟨RX1, "coefficient", "(II)I"⟩
theorem dX1_coefficient_0 : decode cX1_coefficient 0 = .ok (.iload_n 1, 1) := by decide +kernel
theorem dX1_coefficient_1 : decode cX1_coefficient 1 = .ok (.ifCond .lt 19, 3) := by decide +kernel
theorem dX1_coefficient_4 : decode cX1_coefficient 4 = .ok (.iload_n 1, 1) := by decide +kernel
theorem dX1_coefficient_5 : decode cX1_coefficient 5 = .ok (.bipush 8, 2) := by decide +kernel
theorem dX1_coefficient_7 : decode cX1_coefficient 7 = .ok (.if_icmp .gt 13, 3) := by decide +kernel
theorem dX1_coefficient_10 : decode cX1_coefficient 10 = .ok (.iload_n 2, 1) := by decide +kernel
theorem dX1_coefficient_11 : decode cX1_coefficient 11 = .ok (.ifCond .lt 9, 3) := by decide +kernel
theorem dX1_coefficient_14 : decode cX1_coefficient 14 = .ok (.iload_n 2, 1) := by decide +kernel
theorem dX1_coefficient_15 : decode cX1_coefficient 15 = .ok (.bipush 8, 2) := by decide +kernel
theorem dX1_coefficient_17 : decode cX1_coefficient 17 = .ok (.if_icmp .le 5, 3) := by decide +kernel
theorem dX1_coefficient_20 : decode cX1_coefficient 20 = .ok (.iconst 0, 1) := by decide +kernel
theorem dX1_coefficient_21 : decode cX1_coefficient 21 = .ok (.ireturn, 1) := by decide +kernel
theorem dX1_coefficient_22 : decode cX1_coefficient 22 = .ok (.aload_n 0, 1) := by decide +kernel
theorem dX1_coefficient_23 : decode cX1_coefficient 23 = .ok (.invokevirtual 56, 3) := by decide +kernel
theorem dX1_coefficient_26 : decode cX1_coefficient 26 = .ok (.aload_n 0, 1) := by decide +kernel
theorem dX1_coefficient_27 : decode cX1_coefficient 27 = .ok (.getfield 16, 3) := by decide +kernel
theorem dX1_coefficient_30 : decode cX1_coefficient 30 = .ok (.bipush 9, 2) := by decide +kernel
theorem dX1_coefficient_32 : decode cX1_coefficient 32 = .ok (.iload_n 1, 1) := by decide +kernel
theorem dX1_coefficient_33 : decode cX1_coefficient 33 = .ok (.imul, 1) := by decide +kernel
theorem dX1_coefficient_34 : decode cX1_coefficient 34 = .ok (.iload_n 2, 1) := by decide +kernel
theorem dX1_coefficient_35 : decode cX1_coefficient 35 = .ok (.iadd, 1) := by decide +kernel
theorem dX1_coefficient_36 : decode cX1_coefficient 36 = .ok (.iaload, 1) := by decide +kernel
theorem dX1_coefficient_37 : decode cX1_coefficient 37 = .ok (.ireturn, 1) := by decide +kernel
abbrev cX1_findPolynomial : ByteArray := prog_1_method_20_code
def yX1_findPolynomial : MethodName := ⟨RX1, "findPolynomial", "()V"⟩
theorem dX1_findPolynomial_0 : decode cX1_findPolynomial 0 = .ok (.aload_n 0, 1) := by decide +kernel
theorem dX1_findPolynomial_1 : decode cX1_findPolynomial 1 = .ok (.getfield 40, 3) := by decide +kernel
theorem dX1_findPolynomial_4 : decode cX1_findPolynomial 4 = .ok (.ifCond .eq 4, 3) := by decide +kernel
theorem dX1_findPolynomial_7 : decode cX1_findPolynomial 7 = .ok (.return_, 1) := by decide +kernel
theorem dX1_findPolynomial_8 : decode cX1_findPolynomial 8 = .ok (.aload_n 0, 1) := by decide +kernel
theorem dX1_findPolynomial_9 : decode cX1_findPolynomial 9 = .ok (.iconst 1, 1) := by decide +kernel
theorem dX1_findPolynomial_10 : decode cX1_findPolynomial 10 = .ok (.putfield 40, 3) := by decide +kernel
theorem dX1_findPolynomial_13 : decode cX1_findPolynomial 13 = .ok (.iconst 0, 1) := by decide +kernel
theorem dX1_findPolynomial_14 : decode cX1_findPolynomial 14 = .ok (.istore_n 1, 1) := by decide +kernel
theorem dX1_findPolynomial_15 : decode cX1_findPolynomial 15 = .ok (.iload_n 1, 1) := by decide +kernel
theorem dX1_findPolynomial_16 : decode cX1_findPolynomial 16 = .ok (.bipush 81, 2) := by decide +kernel
theorem dX1_findPolynomial_18 : decode cX1_findPolynomial 18 = .ok (.if_icmp .ge 16, 3) := by decide +kernel
theorem dX1_findPolynomial_21 : decode cX1_findPolynomial 21 = .ok (.aload_n 0, 1) := by decide +kernel
theorem dX1_findPolynomial_22 : decode cX1_findPolynomial 22 = .ok (.getfield 16, 3) := by decide +kernel
theorem dX1_findPolynomial_25 : decode cX1_findPolynomial 25 = .ok (.iload_n 1, 1) := by decide +kernel
theorem dX1_findPolynomial_26 : decode cX1_findPolynomial 26 = .ok (.iconst 0, 1) := by decide +kernel
theorem dX1_findPolynomial_27 : decode cX1_findPolynomial 27 = .ok (.iastore, 1) := by decide +kernel
theorem dX1_findPolynomial_28 : decode cX1_findPolynomial 28 = .ok (.iinc 1 1, 3) := by decide +kernel
theorem dX1_findPolynomial_31 : decode cX1_findPolynomial 31 = .ok (.goto (-16), 3) := by decide +kernel
theorem dX1_findPolynomial_34 : decode cX1_findPolynomial 34 = .ok (.aload_n 0, 1) := by decide +kernel
theorem dX1_findPolynomial_35 : decode cX1_findPolynomial 35 = .ok (.iconst 0, 1) := by decide +kernel
theorem dX1_findPolynomial_36 : decode cX1_findPolynomial 36 = .ok (.putfield 72, 3) := by decide +kernel
theorem dX1_findPolynomial_39 : decode cX1_findPolynomial 39 = .ok (.aload_n 0, 1) := by decide +kernel
theorem dX1_findPolynomial_40 : decode cX1_findPolynomial 40 = .ok (.invokevirtual 48, 3) := by decide +kernel
theorem dX1_findPolynomial_43 : decode cX1_findPolynomial 43 = .ok (.istore_n 1, 1) := by decide +kernel
theorem dX1_findPolynomial_44 : decode cX1_findPolynomial 44 = .ok (.aload_n 0, 1) := by decide +kernel
theorem dX1_findPolynomial_45 : decode cX1_findPolynomial 45 = .ok (.iconst 1, 1) := by decide +kernel
theorem dX1_findPolynomial_46 : decode cX1_findPolynomial 46 = .ok (.aload_n 0, 1) := by decide +kernel
theorem dX1_findPolynomial_47 : decode cX1_findPolynomial 47 = .ok (.getfield 37, 3) := by decide +kernel
theorem dX1_findPolynomial_50 : decode cX1_findPolynomial 50 = .ok (.ishl, 1) := by decide +kernel
theorem dX1_findPolynomial_51 : decode cX1_findPolynomial 51 = .ok (.iconst 1, 1) := by decide +kernel
theorem dX1_findPolynomial_52 : decode cX1_findPolynomial 52 = .ok (.isub, 1) := by decide +kernel
theorem dX1_findPolynomial_53 : decode cX1_findPolynomial 53 = .ok (.iload_n 1, 1) := by decide +kernel
theorem dX1_findPolynomial_54 : decode cX1_findPolynomial 54 = .ok (.iconst 0, 1) := by decide +kernel
theorem dX1_findPolynomial_55 : decode cX1_findPolynomial 55 = .ok (.iconst 0, 1) := by decide +kernel
theorem dX1_findPolynomial_56 : decode cX1_findPolynomial 56 = .ok (.invokevirtual 75, 3) := by decide +kernel
theorem dX1_findPolynomial_59 : decode cX1_findPolynomial 59 = .ok (.aload_n 0, 1) := by decide +kernel
theorem dX1_findPolynomial_60 : decode cX1_findPolynomial 60 = .ok (.getfield 72, 3) := by decide +kernel
theorem dX1_findPolynomial_63 : decode cX1_findPolynomial 63 = .ok (.ifCond .le 56, 3) := by decide +kernel
theorem dX1_findPolynomial_66 : decode cX1_findPolynomial 66 = .ok (.aload_n 0, 1) := by decide +kernel
theorem dX1_findPolynomial_67 : decode cX1_findPolynomial 67 = .ok (.dup, 1) := by decide +kernel
theorem dX1_findPolynomial_68 : decode cX1_findPolynomial 68 = .ok (.getfield 72, 3) := by decide +kernel
theorem dX1_findPolynomial_71 : decode cX1_findPolynomial 71 = .ok (.iconst 1, 1) := by decide +kernel
theorem dX1_findPolynomial_72 : decode cX1_findPolynomial 72 = .ok (.isub, 1) := by decide +kernel
theorem dX1_findPolynomial_73 : decode cX1_findPolynomial 73 = .ok (.putfield 72, 3) := by decide +kernel
theorem dX1_findPolynomial_76 : decode cX1_findPolynomial 76 = .ok (.aload_n 0, 1) := by decide +kernel
theorem dX1_findPolynomial_77 : decode cX1_findPolynomial 77 = .ok (.aload_n 0, 1) := by decide +kernel
theorem dX1_findPolynomial_78 : decode cX1_findPolynomial 78 = .ok (.getfield 20, 3) := by decide +kernel
theorem dX1_findPolynomial_81 : decode cX1_findPolynomial 81 = .ok (.aload_n 0, 1) := by decide +kernel
theorem dX1_findPolynomial_82 : decode cX1_findPolynomial 82 = .ok (.getfield 72, 3) := by decide +kernel
theorem dX1_findPolynomial_85 : decode cX1_findPolynomial 85 = .ok (.saload, 1) := by decide +kernel
theorem dX1_findPolynomial_86 : decode cX1_findPolynomial 86 = .ok (.aload_n 0, 1) := by decide +kernel
theorem dX1_findPolynomial_87 : decode cX1_findPolynomial 87 = .ok (.getfield 24, 3) := by decide +kernel
theorem dX1_findPolynomial_90 : decode cX1_findPolynomial 90 = .ok (.aload_n 0, 1) := by decide +kernel
theorem dX1_findPolynomial_91 : decode cX1_findPolynomial 91 = .ok (.getfield 72, 3) := by decide +kernel
theorem dX1_findPolynomial_94 : decode cX1_findPolynomial 94 = .ok (.iaload, 1) := by decide +kernel
theorem dX1_findPolynomial_95 : decode cX1_findPolynomial 95 = .ok (.aload_n 0, 1) := by decide +kernel
theorem dX1_findPolynomial_96 : decode cX1_findPolynomial 96 = .ok (.getfield 27, 3) := by decide +kernel
theorem dX1_findPolynomial_99 : decode cX1_findPolynomial 99 = .ok (.aload_n 0, 1) := by decide +kernel
theorem dX1_findPolynomial_100 : decode cX1_findPolynomial 100 = .ok (.getfield 72, 3) := by decide +kernel
theorem dX1_findPolynomial_103 : decode cX1_findPolynomial 103 = .ok (.baload, 1) := by decide +kernel
theorem dX1_findPolynomial_104 : decode cX1_findPolynomial 104 = .ok (.aload_n 0, 1) := by decide +kernel
theorem dX1_findPolynomial_105 : decode cX1_findPolynomial 105 = .ok (.getfield 30, 3) := by decide +kernel
theorem dX1_findPolynomial_108 : decode cX1_findPolynomial 108 = .ok (.aload_n 0, 1) := by decide +kernel
theorem dX1_findPolynomial_109 : decode cX1_findPolynomial 109 = .ok (.getfield 72, 3) := by decide +kernel
theorem dX1_findPolynomial_112 : decode cX1_findPolynomial 112 = .ok (.baload, 1) := by decide +kernel
theorem dX1_findPolynomial_113 : decode cX1_findPolynomial 113 = .ok (.invokevirtual 79, 3) := by decide +kernel
theorem dX1_findPolynomial_116 : decode cX1_findPolynomial 116 = .ok (.goto (-57), 3) := by decide +kernel
theorem dX1_findPolynomial_119 : decode cX1_findPolynomial 119 = .ok (.return_, 1) := by decide +kernel
abbrev cX1_push : ByteArray := prog_1_method_19_code
def yX1_push : MethodName := ⟨RX1, "push", "(IIII)V"⟩
theorem dX1_push_0 : decode cX1_push 0 = .ok (.aload_n 0, 1) := by decide +kernel
theorem dX1_push_1 : decode cX1_push 1 = .ok (.getfield 20, 3) := by decide +kernel
theorem dX1_push_4 : decode cX1_push 4 = .ok (.aload_n 0, 1) := by decide +kernel
theorem dX1_push_5 : decode cX1_push 5 = .ok (.getfield 72, 3) := by decide +kernel
theorem dX1_push_8 : decode cX1_push 8 = .ok (.iload_n 1, 1) := by decide +kernel
theorem dX1_push_9 : decode cX1_push 9 = .ok (.i2s, 1) := by decide +kernel
theorem dX1_push_10 : decode cX1_push 10 = .ok (.sastore, 1) := by decide +kernel
theorem dX1_push_11 : decode cX1_push 11 = .ok (.aload_n 0, 1) := by decide +kernel
theorem dX1_push_12 : decode cX1_push 12 = .ok (.getfield 24, 3) := by decide +kernel
theorem dX1_push_15 : decode cX1_push 15 = .ok (.aload_n 0, 1) := by decide +kernel
theorem dX1_push_16 : decode cX1_push 16 = .ok (.getfield 72, 3) := by decide +kernel
theorem dX1_push_19 : decode cX1_push 19 = .ok (.iload_n 2, 1) := by decide +kernel
theorem dX1_push_20 : decode cX1_push 20 = .ok (.iastore, 1) := by decide +kernel
theorem dX1_push_21 : decode cX1_push 21 = .ok (.aload_n 0, 1) := by decide +kernel
theorem dX1_push_22 : decode cX1_push 22 = .ok (.getfield 27, 3) := by decide +kernel
theorem dX1_push_25 : decode cX1_push 25 = .ok (.aload_n 0, 1) := by decide +kernel
theorem dX1_push_26 : decode cX1_push 26 = .ok (.getfield 72, 3) := by decide +kernel
theorem dX1_push_29 : decode cX1_push 29 = .ok (.iload_n 3, 1) := by decide +kernel
theorem dX1_push_30 : decode cX1_push 30 = .ok (.i2b, 1) := by decide +kernel
theorem dX1_push_31 : decode cX1_push 31 = .ok (.bastore, 1) := by decide +kernel
theorem dX1_push_32 : decode cX1_push 32 = .ok (.aload_n 0, 1) := by decide +kernel
theorem dX1_push_33 : decode cX1_push 33 = .ok (.getfield 30, 3) := by decide +kernel
theorem dX1_push_36 : decode cX1_push 36 = .ok (.aload_n 0, 1) := by decide +kernel
theorem dX1_push_37 : decode cX1_push 37 = .ok (.getfield 72, 3) := by decide +kernel
theorem dX1_push_40 : decode cX1_push 40 = .ok (.iload 4, 2) := by decide +kernel
theorem dX1_push_42 : decode cX1_push 42 = .ok (.i2b, 1) := by decide +kernel
theorem dX1_push_43 : decode cX1_push 43 = .ok (.bastore, 1) := by decide +kernel
theorem dX1_push_44 : decode cX1_push 44 = .ok (.aload_n 0, 1) := by decide +kernel
theorem dX1_push_45 : decode cX1_push 45 = .ok (.dup, 1) := by decide +kernel
theorem dX1_push_46 : decode cX1_push 46 = .ok (.getfield 72, 3) := by decide +kernel
theorem dX1_push_49 : decode cX1_push 49 = .ok (.iconst 1, 1) := by decide +kernel
theorem dX1_push_50 : decode cX1_push 50 = .ok (.iadd, 1) := by decide +kernel
theorem dX1_push_51 : decode cX1_push 51 = .ok (.putfield 72, 3) := by decide +kernel
theorem dX1_push_54 : decode cX1_push 54 = .ok (.return_, 1) := by decide +kernel
abbrev cX1_workOff : ByteArray := prog_1_method_21_code
def yX1_workOff : MethodName := ⟨RX1, "workOff", "(IIII)V"⟩
theorem dX1_workOff_0 : decode cX1_workOff 0 = .ok (.iload_n 1, 1) := by decide +kernel
theorem dX1_workOff_1 : decode cX1_workOff 1 = .ok (.ifCond .ne 20, 3) := by decide +kernel
theorem dX1_workOff_4 : decode cX1_workOff 4 = .ok (.aload_n 0, 1) := by decide +kernel
theorem dX1_workOff_5 : decode cX1_workOff 5 = .ok (.getfield 16, 3) := by decide +kernel
theorem dX1_workOff_8 : decode cX1_workOff 8 = .ok (.bipush 9, 2) := by decide +kernel
theorem dX1_workOff_10 : decode cX1_workOff 10 = .ok (.iload_n 3, 1) := by decide +kernel
theorem dX1_workOff_11 : decode cX1_workOff 11 = .ok (.imul, 1) := by decide +kernel
theorem dX1_workOff_12 : decode cX1_workOff 12 = .ok (.iload 4, 2) := by decide +kernel
theorem dX1_workOff_14 : decode cX1_workOff 14 = .ok (.iadd, 1) := by decide +kernel
theorem dX1_workOff_15 : decode cX1_workOff 15 = .ok (.dup2, 1) := by decide +kernel
theorem dX1_workOff_16 : decode cX1_workOff 16 = .ok (.iaload, 1) := by decide +kernel
theorem dX1_workOff_17 : decode cX1_workOff 17 = .ok (.iconst 1, 1) := by decide +kernel
theorem dX1_workOff_18 : decode cX1_workOff 18 = .ok (.iadd, 1) := by decide +kernel
theorem dX1_workOff_19 : decode cX1_workOff 19 = .ok (.iastore, 1) := by decide +kernel
theorem dX1_workOff_20 : decode cX1_workOff 20 = .ok (.return_, 1) := by decide +kernel
theorem dX1_workOff_21 : decode cX1_workOff 21 = .ok (.iconst 0, 1) := by decide +kernel
theorem dX1_workOff_22 : decode cX1_workOff 22 = .ok (.istore 5, 2) := by decide +kernel
theorem dX1_workOff_24 : decode cX1_workOff 24 = .ok (.iload_n 1, 1) := by decide +kernel
theorem dX1_workOff_25 : decode cX1_workOff 25 = .ok (.iload 5, 2) := by decide +kernel
theorem dX1_workOff_27 : decode cX1_workOff 27 = .ok (.ishr, 1) := by decide +kernel
theorem dX1_workOff_28 : decode cX1_workOff 28 = .ok (.iconst 1, 1) := by decide +kernel
theorem dX1_workOff_29 : decode cX1_workOff 29 = .ok (.iand, 1) := by decide +kernel
theorem dX1_workOff_30 : decode cX1_workOff 30 = .ok (.ifCond .ne 9, 3) := by decide +kernel
theorem dX1_workOff_33 : decode cX1_workOff 33 = .ok (.iinc 5 1, 3) := by decide +kernel
theorem dX1_workOff_36 : decode cX1_workOff 36 = .ok (.goto (-12), 3) := by decide +kernel
theorem dX1_workOff_39 : decode cX1_workOff 39 = .ok (.iload_n 1, 1) := by decide +kernel
theorem dX1_workOff_40 : decode cX1_workOff 40 = .ok (.iconst 1, 1) := by decide +kernel
theorem dX1_workOff_41 : decode cX1_workOff 41 = .ok (.iload 5, 2) := by decide +kernel
theorem dX1_workOff_43 : decode cX1_workOff 43 = .ok (.ishl, 1) := by decide +kernel
theorem dX1_workOff_44 : decode cX1_workOff 44 = .ok (.iconst (-1), 1) := by decide +kernel
theorem dX1_workOff_45 : decode cX1_workOff 45 = .ok (.ixor, 1) := by decide +kernel
theorem dX1_workOff_46 : decode cX1_workOff 46 = .ok (.iand, 1) := by decide +kernel
theorem dX1_workOff_47 : decode cX1_workOff 47 = .ok (.istore 6, 2) := by decide +kernel
theorem dX1_workOff_49 : decode cX1_workOff 49 = .ok (.aload_n 0, 1) := by decide +kernel
theorem dX1_workOff_50 : decode cX1_workOff 50 = .ok (.iload_n 2, 1) := by decide +kernel
theorem dX1_workOff_51 : decode cX1_workOff 51 = .ok (.aload_n 0, 1) := by decide +kernel
theorem dX1_workOff_52 : decode cX1_workOff 52 = .ok (.getfield 7, 3) := by decide +kernel
theorem dX1_workOff_55 : decode cX1_workOff 55 = .ok (.iload 5, 2) := by decide +kernel
theorem dX1_workOff_57 : decode cX1_workOff 57 = .ok (.baload, 1) := by decide +kernel
theorem dX1_workOff_58 : decode cX1_workOff 58 = .ok (.invokevirtual 65, 3) := by decide +kernel
theorem dX1_workOff_61 : decode cX1_workOff 61 = .ok (.istore 7, 2) := by decide +kernel
theorem dX1_workOff_63 : decode cX1_workOff 63 = .ok (.aload_n 0, 1) := by decide +kernel
theorem dX1_workOff_64 : decode cX1_workOff 64 = .ok (.iload_n 2, 1) := by decide +kernel
theorem dX1_workOff_65 : decode cX1_workOff 65 = .ok (.aload_n 0, 1) := by decide +kernel
theorem dX1_workOff_66 : decode cX1_workOff 66 = .ok (.getfield 13, 3) := by decide +kernel
theorem dX1_workOff_69 : decode cX1_workOff 69 = .ok (.iload 5, 2) := by decide +kernel
theorem dX1_workOff_71 : decode cX1_workOff 71 = .ok (.baload, 1) := by decide +kernel
theorem dX1_workOff_72 : decode cX1_workOff 72 = .ok (.invokevirtual 65, 3) := by decide +kernel
theorem dX1_workOff_75 : decode cX1_workOff 75 = .ok (.istore 8, 2) := by decide +kernel
theorem dX1_workOff_77 : decode cX1_workOff 77 = .ok (.iload 7, 2) := by decide +kernel
theorem dX1_workOff_79 : decode cX1_workOff 79 = .ok (.iload 8, 2) := by decide +kernel
theorem dX1_workOff_81 : decode cX1_workOff 81 = .ok (.if_icmp .ne 16, 3) := by decide +kernel
theorem dX1_workOff_84 : decode cX1_workOff 84 = .ok (.aload_n 0, 1) := by decide +kernel
theorem dX1_workOff_85 : decode cX1_workOff 85 = .ok (.iload 6, 2) := by decide +kernel
theorem dX1_workOff_87 : decode cX1_workOff 87 = .ok (.iload_n 2, 1) := by decide +kernel
theorem dX1_workOff_88 : decode cX1_workOff 88 = .ok (.iload_n 3, 1) := by decide +kernel
theorem dX1_workOff_89 : decode cX1_workOff 89 = .ok (.iload 4, 2) := by decide +kernel
theorem dX1_workOff_91 : decode cX1_workOff 91 = .ok (.iconst 1, 1) := by decide +kernel
theorem dX1_workOff_92 : decode cX1_workOff 92 = .ok (.iadd, 1) := by decide +kernel
theorem dX1_workOff_93 : decode cX1_workOff 93 = .ok (.invokevirtual 75, 3) := by decide +kernel
theorem dX1_workOff_96 : decode cX1_workOff 96 = .ok (.return_, 1) := by decide +kernel
theorem dX1_workOff_97 : decode cX1_workOff 97 = .ok (.aload_n 0, 1) := by decide +kernel
theorem dX1_workOff_98 : decode cX1_workOff 98 = .ok (.iload_n 2, 1) := by decide +kernel
theorem dX1_workOff_99 : decode cX1_workOff 99 = .ok (.iload 7, 2) := by decide +kernel
theorem dX1_workOff_101 : decode cX1_workOff 101 = .ok (.iload 8, 2) := by decide +kernel
theorem dX1_workOff_103 : decode cX1_workOff 103 = .ok (.invokevirtual 68, 3) := by decide +kernel
theorem dX1_workOff_106 : decode cX1_workOff 106 = .ok (.istore 9, 2) := by decide +kernel
theorem dX1_workOff_108 : decode cX1_workOff 108 = .ok (.aload_n 0, 1) := by decide +kernel
theorem dX1_workOff_109 : decode cX1_workOff 109 = .ok (.iload 6, 2) := by decide +kernel
theorem dX1_workOff_111 : decode cX1_workOff 111 = .ok (.iload_n 2, 1) := by decide +kernel
theorem dX1_workOff_112 : decode cX1_workOff 112 = .ok (.invokevirtual 52, 3) := by decide +kernel
theorem dX1_workOff_115 : decode cX1_workOff 115 = .ok (.istore 10, 2) := by decide +kernel
theorem dX1_workOff_117 : decode cX1_workOff 117 = .ok (.aload_n 0, 1) := by decide +kernel
theorem dX1_workOff_118 : decode cX1_workOff 118 = .ok (.iload 10, 2) := by decide +kernel
theorem dX1_workOff_120 : decode cX1_workOff 120 = .ok (.aload_n 0, 1) := by decide +kernel
theorem dX1_workOff_121 : decode cX1_workOff 121 = .ok (.getfield 7, 3) := by decide +kernel
theorem dX1_workOff_124 : decode cX1_workOff 124 = .ok (.iload 5, 2) := by decide +kernel
theorem dX1_workOff_126 : decode cX1_workOff 126 = .ok (.baload, 1) := by decide +kernel
theorem dX1_workOff_127 : decode cX1_workOff 127 = .ok (.invokevirtual 65, 3) := by decide +kernel
theorem dX1_workOff_130 : decode cX1_workOff 130 = .ok (.aload_n 0, 1) := by decide +kernel
theorem dX1_workOff_131 : decode cX1_workOff 131 = .ok (.iload 10, 2) := by decide +kernel
theorem dX1_workOff_133 : decode cX1_workOff 133 = .ok (.aload_n 0, 1) := by decide +kernel
theorem dX1_workOff_134 : decode cX1_workOff 134 = .ok (.getfield 13, 3) := by decide +kernel
theorem dX1_workOff_137 : decode cX1_workOff 137 = .ok (.iload 5, 2) := by decide +kernel
theorem dX1_workOff_139 : decode cX1_workOff 139 = .ok (.baload, 1) := by decide +kernel
theorem dX1_workOff_140 : decode cX1_workOff 140 = .ok (.invokevirtual 65, 3) := by decide +kernel
theorem dX1_workOff_143 : decode cX1_workOff 143 = .ok (.if_icmp .eq 17, 3) := by decide +kernel
theorem dX1_workOff_146 : decode cX1_workOff 146 = .ok (.aload_n 0, 1) := by decide +kernel
theorem dX1_workOff_147 : decode cX1_workOff 147 = .ok (.iload 6, 2) := by decide +kernel
theorem dX1_workOff_149 : decode cX1_workOff 149 = .ok (.iload 9, 2) := by decide +kernel
theorem dX1_workOff_151 : decode cX1_workOff 151 = .ok (.iload_n 3, 1) := by decide +kernel
theorem dX1_workOff_152 : decode cX1_workOff 152 = .ok (.iconst 1, 1) := by decide +kernel
theorem dX1_workOff_153 : decode cX1_workOff 153 = .ok (.iadd, 1) := by decide +kernel
theorem dX1_workOff_154 : decode cX1_workOff 154 = .ok (.iload 4, 2) := by decide +kernel
theorem dX1_workOff_156 : decode cX1_workOff 156 = .ok (.invokevirtual 75, 3) := by decide +kernel
theorem dX1_workOff_159 : decode cX1_workOff 159 = .ok (.return_, 1) := by decide +kernel
theorem dX1_workOff_160 : decode cX1_workOff 160 = .ok (.aload_n 0, 1) := by decide +kernel
theorem dX1_workOff_161 : decode cX1_workOff 161 = .ok (.iload 6, 2) := by decide +kernel
theorem dX1_workOff_163 : decode cX1_workOff 163 = .ok (.iload_n 2, 1) := by decide +kernel
theorem dX1_workOff_164 : decode cX1_workOff 164 = .ok (.iload_n 3, 1) := by decide +kernel
theorem dX1_workOff_165 : decode cX1_workOff 165 = .ok (.iload 4, 2) := by decide +kernel
theorem dX1_workOff_167 : decode cX1_workOff 167 = .ok (.invokevirtual 75, 3) := by decide +kernel
theorem dX1_workOff_170 : decode cX1_workOff 170 = .ok (.aload_n 0, 1) := by decide +kernel
theorem dX1_workOff_171 : decode cX1_workOff 171 = .ok (.iload 6, 2) := by decide +kernel
theorem dX1_workOff_173 : decode cX1_workOff 173 = .ok (.iload 9, 2) := by decide +kernel
theorem dX1_workOff_175 : decode cX1_workOff 175 = .ok (.iload_n 3, 1) := by decide +kernel
theorem dX1_workOff_176 : decode cX1_workOff 176 = .ok (.iload 4, 2) := by decide +kernel
theorem dX1_workOff_178 : decode cX1_workOff 178 = .ok (.invokevirtual 75, 3) := by decide +kernel
theorem dX1_workOff_181 : decode cX1_workOff 181 = .ok (.return_, 1) := by decide +kernel
abbrev cX1_trees : ByteArray := prog_1_method_8_code
def yX1_trees : MethodName := ⟨RX1, "trees", "()I"⟩
theorem dX1_trees_0 : decode cX1_trees 0 = .ok (.aload_n 0, 1) := by decide +kernel
theorem dX1_trees_1 : decode cX1_trees 1 = .ok (.iconst 1, 1) := by decide +kernel
theorem dX1_trees_2 : decode cX1_trees 2 = .ok (.iconst 1, 1) := by decide +kernel
theorem dX1_trees_3 : decode cX1_trees 3 = .ok (.invokevirtual 59, 3) := by decide +kernel
theorem dX1_trees_6 : decode cX1_trees 6 = .ok (.ireturn, 1) := by decide +kernel
abbrev cX1_valueAt : ByteArray := prog_1_method_14_code
def yX1_valueAt : MethodName := ⟨RX1, "valueAt", "(II)I"⟩
theorem dX1_valueAt_0 : decode cX1_valueAt 0 = .ok (.aload_n 0, 1) := by decide +kernel
theorem dX1_valueAt_1 : decode cX1_valueAt 1 = .ok (.invokevirtual 56, 3) := by decide +kernel
theorem dX1_valueAt_4 : decode cX1_valueAt 4 = .ok (.iconst 0, 1) := by decide +kernel
theorem dX1_valueAt_5 : decode cX1_valueAt 5 = .ok (.istore_n 3, 1) := by decide +kernel
theorem dX1_valueAt_6 : decode cX1_valueAt 6 = .ok (.iconst 1, 1) := by decide +kernel
theorem dX1_valueAt_7 : decode cX1_valueAt 7 = .ok (.istore 4, 2) := by decide +kernel
theorem dX1_valueAt_9 : decode cX1_valueAt 9 = .ok (.iconst 0, 1) := by decide +kernel
theorem dX1_valueAt_10 : decode cX1_valueAt 10 = .ok (.istore 5, 2) := by decide +kernel
theorem dX1_valueAt_12 : decode cX1_valueAt 12 = .ok (.iload 5, 2) := by decide +kernel
theorem dX1_valueAt_14 : decode cX1_valueAt 14 = .ok (.bipush 9, 2) := by decide +kernel
theorem dX1_valueAt_16 : decode cX1_valueAt 16 = .ok (.if_icmp .ge 60, 3) := by decide +kernel
theorem dX1_valueAt_19 : decode cX1_valueAt 19 = .ok (.iload 4, 2) := by decide +kernel
theorem dX1_valueAt_21 : decode cX1_valueAt 21 = .ok (.istore 6, 2) := by decide +kernel
theorem dX1_valueAt_23 : decode cX1_valueAt 23 = .ok (.iconst 0, 1) := by decide +kernel
theorem dX1_valueAt_24 : decode cX1_valueAt 24 = .ok (.istore 7, 2) := by decide +kernel
theorem dX1_valueAt_26 : decode cX1_valueAt 26 = .ok (.iload 7, 2) := by decide +kernel
theorem dX1_valueAt_28 : decode cX1_valueAt 28 = .ok (.bipush 9, 2) := by decide +kernel
theorem dX1_valueAt_30 : decode cX1_valueAt 30 = .ok (.if_icmp .ge 34, 3) := by decide +kernel
theorem dX1_valueAt_33 : decode cX1_valueAt 33 = .ok (.iload_n 3, 1) := by decide +kernel
theorem dX1_valueAt_34 : decode cX1_valueAt 34 = .ok (.aload_n 0, 1) := by decide +kernel
theorem dX1_valueAt_35 : decode cX1_valueAt 35 = .ok (.getfield 16, 3) := by decide +kernel
theorem dX1_valueAt_38 : decode cX1_valueAt 38 = .ok (.bipush 9, 2) := by decide +kernel
theorem dX1_valueAt_40 : decode cX1_valueAt 40 = .ok (.iload 5, 2) := by decide +kernel
theorem dX1_valueAt_42 : decode cX1_valueAt 42 = .ok (.imul, 1) := by decide +kernel
theorem dX1_valueAt_43 : decode cX1_valueAt 43 = .ok (.iload 7, 2) := by decide +kernel
theorem dX1_valueAt_45 : decode cX1_valueAt 45 = .ok (.iadd, 1) := by decide +kernel
theorem dX1_valueAt_46 : decode cX1_valueAt 46 = .ok (.iaload, 1) := by decide +kernel
theorem dX1_valueAt_47 : decode cX1_valueAt 47 = .ok (.iload 6, 2) := by decide +kernel
theorem dX1_valueAt_49 : decode cX1_valueAt 49 = .ok (.imul, 1) := by decide +kernel
theorem dX1_valueAt_50 : decode cX1_valueAt 50 = .ok (.iadd, 1) := by decide +kernel
theorem dX1_valueAt_51 : decode cX1_valueAt 51 = .ok (.istore_n 3, 1) := by decide +kernel
theorem dX1_valueAt_52 : decode cX1_valueAt 52 = .ok (.iload 6, 2) := by decide +kernel
theorem dX1_valueAt_54 : decode cX1_valueAt 54 = .ok (.iload_n 2, 1) := by decide +kernel
theorem dX1_valueAt_55 : decode cX1_valueAt 55 = .ok (.imul, 1) := by decide +kernel
theorem dX1_valueAt_56 : decode cX1_valueAt 56 = .ok (.istore 6, 2) := by decide +kernel
theorem dX1_valueAt_58 : decode cX1_valueAt 58 = .ok (.iinc 7 1, 3) := by decide +kernel
theorem dX1_valueAt_61 : decode cX1_valueAt 61 = .ok (.goto (-35), 3) := by decide +kernel
theorem dX1_valueAt_64 : decode cX1_valueAt 64 = .ok (.iload 4, 2) := by decide +kernel
theorem dX1_valueAt_66 : decode cX1_valueAt 66 = .ok (.iload_n 1, 1) := by decide +kernel
theorem dX1_valueAt_67 : decode cX1_valueAt 67 = .ok (.imul, 1) := by decide +kernel
theorem dX1_valueAt_68 : decode cX1_valueAt 68 = .ok (.istore 4, 2) := by decide +kernel
theorem dX1_valueAt_70 : decode cX1_valueAt 70 = .ok (.iinc 5 1, 3) := by decide +kernel
theorem dX1_valueAt_73 : decode cX1_valueAt 73 = .ok (.goto (-61), 3) := by decide +kernel
theorem dX1_valueAt_76 : decode cX1_valueAt 76 = .ok (.iload_n 3, 1) := by decide +kernel
theorem dX1_valueAt_77 : decode cX1_valueAt 77 = .ok (.ireturn, 1) := by decide +kernel
abbrev cX1_forests : ByteArray := prog_1_method_9_code
def yX1_forests : MethodName := ⟨RX1, "forests", "()I"⟩
theorem dX1_forests_0 : decode cX1_forests 0 = .ok (.aload_n 0, 1) := by decide +kernel
theorem dX1_forests_1 : decode cX1_forests 1 = .ok (.iconst 2, 1) := by decide +kernel
theorem dX1_forests_2 : decode cX1_forests 2 = .ok (.iconst 1, 1) := by decide +kernel
theorem dX1_forests_3 : decode cX1_forests 3 = .ok (.invokevirtual 59, 3) := by decide +kernel
theorem dX1_forests_6 : decode cX1_forests 6 = .ok (.ireturn, 1) := by decide +kernel
abbrev cX1_spanning : ByteArray := prog_1_method_10_code
def yX1_spanning : MethodName := ⟨RX1, "spanning", "()I"⟩
theorem dX1_spanning_0 : decode cX1_spanning 0 = .ok (.aload_n 0, 1) := by decide +kernel
theorem dX1_spanning_1 : decode cX1_spanning 1 = .ok (.iconst 1, 1) := by decide +kernel
theorem dX1_spanning_2 : decode cX1_spanning 2 = .ok (.iconst 2, 1) := by decide +kernel
theorem dX1_spanning_3 : decode cX1_spanning 3 = .ok (.invokevirtual 59, 3) := by decide +kernel
theorem dX1_spanning_6 : decode cX1_spanning 6 = .ok (.ireturn, 1) := by decide +kernel
abbrev cX1_colourings : ByteArray := prog_1_method_11_code
def yX1_colourings : MethodName := ⟨RX1, "colourings", "(I)I"⟩
theorem dX1_colourings_0 : decode cX1_colourings 0 = .ok (.iload_n 1, 1) := by decide +kernel
theorem dX1_colourings_1 : decode cX1_colourings 1 = .ok (.ifCond .lt 9, 3) := by decide +kernel
theorem dX1_colourings_4 : decode cX1_colourings 4 = .ok (.iload_n 1, 1) := by decide +kernel
theorem dX1_colourings_5 : decode cX1_colourings 5 = .ok (.bipush 6, 2) := by decide +kernel
theorem dX1_colourings_7 : decode cX1_colourings 7 = .ok (.if_icmp .le 5, 3) := by decide +kernel
theorem dX1_colourings_10 : decode cX1_colourings 10 = .ok (.iconst (-1), 1) := by decide +kernel
theorem dX1_colourings_11 : decode cX1_colourings 11 = .ok (.ireturn, 1) := by decide +kernel
theorem dX1_colourings_12 : decode cX1_colourings 12 = .ok (.aload_n 0, 1) := by decide +kernel
theorem dX1_colourings_13 : decode cX1_colourings 13 = .ok (.invokevirtual 62, 3) := by decide +kernel
theorem dX1_colourings_16 : decode cX1_colourings 16 = .ok (.istore_n 2, 1) := by decide +kernel
theorem dX1_colourings_17 : decode cX1_colourings 17 = .ok (.aload_n 0, 1) := by decide +kernel
theorem dX1_colourings_18 : decode cX1_colourings 18 = .ok (.iconst 1, 1) := by decide +kernel
theorem dX1_colourings_19 : decode cX1_colourings 19 = .ok (.iload_n 1, 1) := by decide +kernel
theorem dX1_colourings_20 : decode cX1_colourings 20 = .ok (.isub, 1) := by decide +kernel
theorem dX1_colourings_21 : decode cX1_colourings 21 = .ok (.iconst 0, 1) := by decide +kernel
theorem dX1_colourings_22 : decode cX1_colourings 22 = .ok (.invokevirtual 59, 3) := by decide +kernel
theorem dX1_colourings_25 : decode cX1_colourings 25 = .ok (.istore_n 3, 1) := by decide +kernel
theorem dX1_colourings_26 : decode cX1_colourings 26 = .ok (.iconst 0, 1) := by decide +kernel
theorem dX1_colourings_27 : decode cX1_colourings 27 = .ok (.istore 4, 2) := by decide +kernel
theorem dX1_colourings_29 : decode cX1_colourings 29 = .ok (.iload 4, 2) := by decide +kernel
theorem dX1_colourings_31 : decode cX1_colourings 31 = .ok (.iload_n 2, 1) := by decide +kernel
theorem dX1_colourings_32 : decode cX1_colourings 32 = .ok (.if_icmp .ge 13, 3) := by decide +kernel
theorem dX1_colourings_35 : decode cX1_colourings 35 = .ok (.iload_n 3, 1) := by decide +kernel
theorem dX1_colourings_36 : decode cX1_colourings 36 = .ok (.iload_n 1, 1) := by decide +kernel
theorem dX1_colourings_37 : decode cX1_colourings 37 = .ok (.imul, 1) := by decide +kernel
theorem dX1_colourings_38 : decode cX1_colourings 38 = .ok (.istore_n 3, 1) := by decide +kernel
theorem dX1_colourings_39 : decode cX1_colourings 39 = .ok (.iinc 4 1, 3) := by decide +kernel
theorem dX1_colourings_42 : decode cX1_colourings 42 = .ok (.goto (-13), 3) := by decide +kernel
theorem dX1_colourings_45 : decode cX1_colourings 45 = .ok (.aload_n 0, 1) := by decide +kernel
theorem dX1_colourings_46 : decode cX1_colourings 46 = .ok (.getfield 33, 3) := by decide +kernel
theorem dX1_colourings_49 : decode cX1_colourings 49 = .ok (.iload_n 2, 1) := by decide +kernel
theorem dX1_colourings_50 : decode cX1_colourings 50 = .ok (.isub, 1) := by decide +kernel
theorem dX1_colourings_51 : decode cX1_colourings 51 = .ok (.iconst 1, 1) := by decide +kernel
theorem dX1_colourings_52 : decode cX1_colourings 52 = .ok (.iand, 1) := by decide +kernel
theorem dX1_colourings_53 : decode cX1_colourings 53 = .ok (.ifCond .ne 7, 3) := by decide +kernel
theorem dX1_colourings_56 : decode cX1_colourings 56 = .ok (.iload_n 3, 1) := by decide +kernel
theorem dX1_colourings_57 : decode cX1_colourings 57 = .ok (.goto 5, 3) := by decide +kernel
theorem dX1_colourings_60 : decode cX1_colourings 60 = .ok (.iload_n 3, 1) := by decide +kernel
theorem dX1_colourings_61 : decode cX1_colourings 61 = .ok (.ineg, 1) := by decide +kernel
theorem dX1_colourings_62 : decode cX1_colourings 62 = .ok (.ireturn, 1) := by decide +kernel
abbrev cX1_flows : ByteArray := prog_1_method_12_code
def yX1_flows : MethodName := ⟨RX1, "flows", "(I)I"⟩
theorem dX1_flows_0 : decode cX1_flows 0 = .ok (.iload_n 1, 1) := by decide +kernel
theorem dX1_flows_1 : decode cX1_flows 1 = .ok (.iconst 1, 1) := by decide +kernel
theorem dX1_flows_2 : decode cX1_flows 2 = .ok (.if_icmp .lt 8, 3) := by decide +kernel
theorem dX1_flows_5 : decode cX1_flows 5 = .ok (.iload_n 1, 1) := by decide +kernel
theorem dX1_flows_6 : decode cX1_flows 6 = .ok (.iconst 4, 1) := by decide +kernel
theorem dX1_flows_7 : decode cX1_flows 7 = .ok (.if_icmp .le 5, 3) := by decide +kernel
theorem dX1_flows_10 : decode cX1_flows 10 = .ok (.iconst (-1), 1) := by decide +kernel
theorem dX1_flows_11 : decode cX1_flows 11 = .ok (.ireturn, 1) := by decide +kernel
theorem dX1_flows_12 : decode cX1_flows 12 = .ok (.aload_n 0, 1) := by decide +kernel
theorem dX1_flows_13 : decode cX1_flows 13 = .ok (.invokevirtual 62, 3) := by decide +kernel
theorem dX1_flows_16 : decode cX1_flows 16 = .ok (.istore_n 2, 1) := by decide +kernel
theorem dX1_flows_17 : decode cX1_flows 17 = .ok (.aload_n 0, 1) := by decide +kernel
theorem dX1_flows_18 : decode cX1_flows 18 = .ok (.iconst 0, 1) := by decide +kernel
theorem dX1_flows_19 : decode cX1_flows 19 = .ok (.iconst 1, 1) := by decide +kernel
theorem dX1_flows_20 : decode cX1_flows 20 = .ok (.iload_n 1, 1) := by decide +kernel
theorem dX1_flows_21 : decode cX1_flows 21 = .ok (.isub, 1) := by decide +kernel
theorem dX1_flows_22 : decode cX1_flows 22 = .ok (.invokevirtual 59, 3) := by decide +kernel
theorem dX1_flows_25 : decode cX1_flows 25 = .ok (.istore_n 3, 1) := by decide +kernel
theorem dX1_flows_26 : decode cX1_flows 26 = .ok (.aload_n 0, 1) := by decide +kernel
theorem dX1_flows_27 : decode cX1_flows 27 = .ok (.getfield 37, 3) := by decide +kernel
theorem dX1_flows_30 : decode cX1_flows 30 = .ok (.aload_n 0, 1) := by decide +kernel
theorem dX1_flows_31 : decode cX1_flows 31 = .ok (.getfield 33, 3) := by decide +kernel
theorem dX1_flows_34 : decode cX1_flows 34 = .ok (.isub, 1) := by decide +kernel
theorem dX1_flows_35 : decode cX1_flows 35 = .ok (.iload_n 2, 1) := by decide +kernel
theorem dX1_flows_36 : decode cX1_flows 36 = .ok (.iadd, 1) := by decide +kernel
theorem dX1_flows_37 : decode cX1_flows 37 = .ok (.iconst 1, 1) := by decide +kernel
theorem dX1_flows_38 : decode cX1_flows 38 = .ok (.iand, 1) := by decide +kernel
theorem dX1_flows_39 : decode cX1_flows 39 = .ok (.ifCond .ne 7, 3) := by decide +kernel
theorem dX1_flows_42 : decode cX1_flows 42 = .ok (.iload_n 3, 1) := by decide +kernel
theorem dX1_flows_43 : decode cX1_flows 43 = .ok (.goto 5, 3) := by decide +kernel
theorem dX1_flows_46 : decode cX1_flows 46 = .ok (.iload_n 3, 1) := by decide +kernel
theorem dX1_flows_47 : decode cX1_flows 47 = .ok (.ineg, 1) := by decide +kernel
theorem dX1_flows_48 : decode cX1_flows 48 = .ok (.ireturn, 1) := by decide +kernel
abbrev cX1_acyclic : ByteArray := prog_1_method_13_code
def yX1_acyclic : MethodName := ⟨RX1, "acyclic", "()I"⟩
theorem dX1_acyclic_0 : decode cX1_acyclic 0 = .ok (.aload_n 0, 1) := by decide +kernel
theorem dX1_acyclic_1 : decode cX1_acyclic 1 = .ok (.iconst 2, 1) := by decide +kernel
theorem dX1_acyclic_2 : decode cX1_acyclic 2 = .ok (.iconst 0, 1) := by decide +kernel
theorem dX1_acyclic_3 : decode cX1_acyclic 3 = .ok (.invokevirtual 59, 3) := by decide +kernel
theorem dX1_acyclic_6 : decode cX1_acyclic 6 = .ok (.ireturn, 1) := by decide +kernel
end
section
set_option maxRecDepth 100000
theorem q24 : (Jvm.Cond.initialized "GraphPolynomials") ∈ lw_all := lw_g (lw_at lw_m1 1 rfl) rfl
theorem q27 : (Jvm.Cond.instantiable "GraphPolynomials" (11 : Nat)) ∈ lw_all := lw_g (lw_at lw_m1 4 rfl) rfl
theorem q29 : (Jvm.Cond.instanceMethod ({ cls := "GraphPolynomials", name := "<init>", desc := "(I)V" } : Jvm.MethodName)) ∈ lw_all := lw_g (lw_at lw_m1 6 rfl) rfl
theorem q30 : (Jvm.Cond.code ({ cls := "GraphPolynomials", name := "<init>", desc := "(I)V" } : Jvm.MethodName) prog_1_method_1_code (2 : Nat) (Option.none : Option Jvm.ClassFile.FieldType)) ∈ lw_all := lw_g (lw_at lw_m1 7 rfl) rfl
theorem q31 : (Jvm.Cond.methodLink "GraphPolynomials" (1 : Nat) ({ cls := "java/lang/Object", name := "<init>", desc := "()V" } : Jvm.MethodName)) ∈ lw_all := lw_g (lw_at lw_m1 8 rfl) rfl
theorem q34 : (Jvm.Cond.fieldLink "GraphPolynomials" (33 : Nat) "GraphPolynomials" "pointCount" "I") ∈ lw_all := lw_g (lw_at lw_m1 11 rfl) rfl
theorem q35 : (Jvm.Cond.fieldLink "GraphPolynomials" (37 : Nat) "GraphPolynomials" "edgeCount" "I") ∈ lw_all := lw_g (lw_at lw_m1 12 rfl) rfl
theorem q36 : (Jvm.Cond.fieldLink "GraphPolynomials" (7 : Nat) "GraphPolynomials" "firstEnd" "[B") ∈ lw_all := lw_g (lw_at lw_m1 13 rfl) rfl
theorem q37 : (Jvm.Cond.fieldLink "GraphPolynomials" (13 : Nat) "GraphPolynomials" "secondEnd" "[B") ∈ lw_all := lw_g (lw_at lw_m1 14 rfl) rfl
theorem q38 : (Jvm.Cond.fieldLink "GraphPolynomials" (40 : Nat) "GraphPolynomials" "ready" "Z") ∈ lw_all := lw_g (lw_at lw_m1 15 rfl) rfl
theorem q39 : (Jvm.Cond.fieldLink "GraphPolynomials" (16 : Nat) "GraphPolynomials" "terms" "[I") ∈ lw_all := lw_g (lw_at lw_m1 16 rfl) rfl
theorem q40 : (Jvm.Cond.fieldLink "GraphPolynomials" (72 : Nat) "GraphPolynomials" "waiting" "I") ∈ lw_all := lw_g (lw_at lw_m1 17 rfl) rfl
theorem q41 : (Jvm.Cond.fieldLink "GraphPolynomials" (20 : Nat) "GraphPolynomials" "waitEdges" "[S") ∈ lw_all := lw_g (lw_at lw_m1 18 rfl) rfl
theorem q42 : (Jvm.Cond.fieldLink "GraphPolynomials" (24 : Nat) "GraphPolynomials" "waitPoints" "[I") ∈ lw_all := lw_g (lw_at lw_m1 19 rfl) rfl
theorem q43 : (Jvm.Cond.fieldLink "GraphPolynomials" (27 : Nat) "GraphPolynomials" "waitX" "[B") ∈ lw_all := lw_g (lw_at lw_m1 20 rfl) rfl
theorem q44 : (Jvm.Cond.fieldLink "GraphPolynomials" (30 : Nat) "GraphPolynomials" "waitY" "[B") ∈ lw_all := lw_g (lw_at lw_m1 21 rfl) rfl
theorem q45 : (Jvm.Cond.lays "GraphPolynomials" "GraphPolynomials" "pointCount" "I") ∈ lw_all := lw_g (lw_at lw_m1 22 rfl) rfl
theorem q46 : (Jvm.Cond.soleField "GraphPolynomials" "pointCount") ∈ lw_all := lw_g (lw_at lw_m1 23 rfl) rfl
theorem q47 : (Jvm.Cond.lays "GraphPolynomials" "GraphPolynomials" "edgeCount" "I") ∈ lw_all := lw_g (lw_at lw_m1 24 rfl) rfl
theorem q48 : (Jvm.Cond.soleField "GraphPolynomials" "edgeCount") ∈ lw_all := lw_g (lw_at lw_m1 25 rfl) rfl
theorem q49 : (Jvm.Cond.laysFinal "GraphPolynomials" "GraphPolynomials" "firstEnd" "[B") ∈ lw_all := lw_g (lw_at lw_m1 26 rfl) rfl
theorem q50 : (Jvm.Cond.soleField "GraphPolynomials" "firstEnd") ∈ lw_all := lw_g (lw_at lw_m1 27 rfl) rfl
theorem q51 : (Jvm.Cond.laysFinal "GraphPolynomials" "GraphPolynomials" "secondEnd" "[B") ∈ lw_all := lw_g (lw_at lw_m1 28 rfl) rfl
theorem q52 : (Jvm.Cond.soleField "GraphPolynomials" "secondEnd") ∈ lw_all := lw_g (lw_at lw_m1 29 rfl) rfl
theorem q53 : (Jvm.Cond.lays "GraphPolynomials" "GraphPolynomials" "ready" "Z") ∈ lw_all := lw_g (lw_at lw_m1 30 rfl) rfl
theorem q54 : (Jvm.Cond.soleField "GraphPolynomials" "ready") ∈ lw_all := lw_g (lw_at lw_m1 31 rfl) rfl
theorem q55 : (Jvm.Cond.laysFinal "GraphPolynomials" "GraphPolynomials" "terms" "[I") ∈ lw_all := lw_g (lw_at lw_m1 32 rfl) rfl
theorem q56 : (Jvm.Cond.soleField "GraphPolynomials" "terms") ∈ lw_all := lw_g (lw_at lw_m1 33 rfl) rfl
theorem q57 : (Jvm.Cond.lays "GraphPolynomials" "GraphPolynomials" "waiting" "I") ∈ lw_all := lw_g (lw_at lw_m1 34 rfl) rfl
theorem q58 : (Jvm.Cond.soleField "GraphPolynomials" "waiting") ∈ lw_all := lw_g (lw_at lw_m1 35 rfl) rfl
theorem q59 : (Jvm.Cond.laysFinal "GraphPolynomials" "GraphPolynomials" "waitEdges" "[S") ∈ lw_all := lw_g (lw_at lw_m1 36 rfl) rfl
theorem q60 : (Jvm.Cond.soleField "GraphPolynomials" "waitEdges") ∈ lw_all := lw_g (lw_at lw_m1 37 rfl) rfl
theorem q61 : (Jvm.Cond.laysFinal "GraphPolynomials" "GraphPolynomials" "waitPoints" "[I") ∈ lw_all := lw_g (lw_at lw_m1 38 rfl) rfl
theorem q62 : (Jvm.Cond.soleField "GraphPolynomials" "waitPoints") ∈ lw_all := lw_g (lw_at lw_m1 39 rfl) rfl
theorem q63 : (Jvm.Cond.laysFinal "GraphPolynomials" "GraphPolynomials" "waitX" "[B") ∈ lw_all := lw_g (lw_at lw_m1 40 rfl) rfl
theorem q64 : (Jvm.Cond.soleField "GraphPolynomials" "waitX") ∈ lw_all := lw_g (lw_at lw_m1 41 rfl) rfl
theorem q65 : (Jvm.Cond.laysFinal "GraphPolynomials" "GraphPolynomials" "waitY" "[B") ∈ lw_all := lw_g (lw_at lw_m1 42 rfl) rfl
theorem q66 : (Jvm.Cond.soleField "GraphPolynomials" "waitY") ∈ lw_all := lw_g (lw_at lw_m1 43 rfl) rfl
theorem q67 : (Jvm.Cond.superclass "GraphPolynomials" "java/lang/Object") ∈ lw_all := lw_g (lw_at lw_m1 44 rfl) rfl
theorem q72 : (Jvm.Cond.instanceMethod ({ cls := "GraphPolynomials", name := "add", desc := "(II)I" } : Jvm.MethodName)) ∈ lw_all := lw_g (lw_at lw_m1 49 rfl) rfl
theorem q73 : (Jvm.Cond.selects "GraphPolynomials" ({ cls := "GraphPolynomials", name := "add", desc := "(II)I" } : Jvm.MethodName) ({ cls := "GraphPolynomials", name := "add", desc := "(II)I" } : Jvm.MethodName)) ∈ lw_all := lw_g (lw_at lw_m1 50 rfl) rfl
theorem q74 : (Jvm.Cond.code ({ cls := "GraphPolynomials", name := "add", desc := "(II)I" } : Jvm.MethodName) prog_1_method_2_code (3 : Nat) (Option.some Jvm.ClassFile.FieldType.int)) ∈ lw_all := lw_g (lw_at lw_m1 51 rfl) rfl
theorem q76 : (Jvm.Cond.instanceMethod ({ cls := "GraphPolynomials", name := "drop", desc := "(I)I" } : Jvm.MethodName)) ∈ lw_all := lw_g (lw_at lw_m1 53 rfl) rfl
theorem q77 : (Jvm.Cond.selects "GraphPolynomials" ({ cls := "GraphPolynomials", name := "drop", desc := "(I)I" } : Jvm.MethodName) ({ cls := "GraphPolynomials", name := "drop", desc := "(I)I" } : Jvm.MethodName)) ∈ lw_all := lw_g (lw_at lw_m1 54 rfl) rfl
theorem q78 : (Jvm.Cond.code ({ cls := "GraphPolynomials", name := "drop", desc := "(I)I" } : Jvm.MethodName) prog_1_method_3_code (3 : Nat) (Option.some Jvm.ClassFile.FieldType.int)) ∈ lw_all := lw_g (lw_at lw_m1 55 rfl) rfl
theorem q80 : (Jvm.Cond.instanceMethod ({ cls := "GraphPolynomials", name := "merge", desc := "(I)I" } : Jvm.MethodName)) ∈ lw_all := lw_g (lw_at lw_m1 57 rfl) rfl
theorem q81 : (Jvm.Cond.selects "GraphPolynomials" ({ cls := "GraphPolynomials", name := "merge", desc := "(I)I" } : Jvm.MethodName) ({ cls := "GraphPolynomials", name := "merge", desc := "(I)I" } : Jvm.MethodName)) ∈ lw_all := lw_g (lw_at lw_m1 58 rfl) rfl
theorem q82 : (Jvm.Cond.code ({ cls := "GraphPolynomials", name := "merge", desc := "(I)I" } : Jvm.MethodName) prog_1_method_4_code (7 : Nat) (Option.some Jvm.ClassFile.FieldType.int)) ∈ lw_all := lw_g (lw_at lw_m1 59 rfl) rfl
theorem q83 : (Jvm.Cond.methodLink "GraphPolynomials" (44 : Nat) ({ cls := "GraphPolynomials", name := "drop", desc := "(I)I" } : Jvm.MethodName)) ∈ lw_all := lw_g (lw_at lw_m1 60 rfl) rfl
theorem q85 : (Jvm.Cond.instanceMethod ({ cls := "GraphPolynomials", name := "edges", desc := "()I" } : Jvm.MethodName)) ∈ lw_all := lw_g (lw_at lw_m1 62 rfl) rfl
theorem q86 : (Jvm.Cond.selects "GraphPolynomials" ({ cls := "GraphPolynomials", name := "edges", desc := "()I" } : Jvm.MethodName) ({ cls := "GraphPolynomials", name := "edges", desc := "()I" } : Jvm.MethodName)) ∈ lw_all := lw_g (lw_at lw_m1 63 rfl) rfl
theorem q87 : (Jvm.Cond.code ({ cls := "GraphPolynomials", name := "edges", desc := "()I" } : Jvm.MethodName) prog_1_method_5_code (1 : Nat) (Option.some Jvm.ClassFile.FieldType.int)) ∈ lw_all := lw_g (lw_at lw_m1 64 rfl) rfl
theorem q89 : (Jvm.Cond.instanceMethod ({ cls := "GraphPolynomials", name := "parts", desc := "()I" } : Jvm.MethodName)) ∈ lw_all := lw_g (lw_at lw_m1 66 rfl) rfl
theorem q90 : (Jvm.Cond.selects "GraphPolynomials" ({ cls := "GraphPolynomials", name := "parts", desc := "()I" } : Jvm.MethodName) ({ cls := "GraphPolynomials", name := "parts", desc := "()I" } : Jvm.MethodName)) ∈ lw_all := lw_g (lw_at lw_m1 67 rfl) rfl
theorem q91 : (Jvm.Cond.code ({ cls := "GraphPolynomials", name := "parts", desc := "()I" } : Jvm.MethodName) prog_1_method_6_code (4 : Nat) (Option.some Jvm.ClassFile.FieldType.int)) ∈ lw_all := lw_g (lw_at lw_m1 68 rfl) rfl
theorem q92 : (Jvm.Cond.methodLink "GraphPolynomials" (48 : Nat) ({ cls := "GraphPolynomials", name := "startPoints", desc := "()I" } : Jvm.MethodName)) ∈ lw_all := lw_g (lw_at lw_m1 69 rfl) rfl
theorem q93 : (Jvm.Cond.privateMethod ({ cls := "GraphPolynomials", name := "startPoints", desc := "()I" } : Jvm.MethodName)) ∈ lw_tbl := lw_at lw_m1 70 rfl
theorem q94 : (Jvm.Cond.instanceMethod ({ cls := "GraphPolynomials", name := "startPoints", desc := "()I" } : Jvm.MethodName)) ∈ lw_all := lw_g (lw_at lw_m1 71 rfl) rfl
theorem q95 : (Jvm.Cond.code ({ cls := "GraphPolynomials", name := "startPoints", desc := "()I" } : Jvm.MethodName) prog_1_method_15_code (3 : Nat) (Option.some Jvm.ClassFile.FieldType.int)) ∈ lw_all := lw_g (lw_at lw_m1 72 rfl) rfl
theorem q96 : (Jvm.Cond.methodLink "GraphPolynomials" (52 : Nat) ({ cls := "GraphPolynomials", name := "drawnTogether", desc := "(II)I" } : Jvm.MethodName)) ∈ lw_all := lw_g (lw_at lw_m1 73 rfl) rfl
theorem q97 : (Jvm.Cond.privateMethod ({ cls := "GraphPolynomials", name := "drawnTogether", desc := "(II)I" } : Jvm.MethodName)) ∈ lw_tbl := lw_at lw_m1 74 rfl
theorem q98 : (Jvm.Cond.instanceMethod ({ cls := "GraphPolynomials", name := "drawnTogether", desc := "(II)I" } : Jvm.MethodName)) ∈ lw_all := lw_g (lw_at lw_m1 75 rfl) rfl
theorem q99 : (Jvm.Cond.code ({ cls := "GraphPolynomials", name := "drawnTogether", desc := "(II)I" } : Jvm.MethodName) prog_1_method_18_code (7 : Nat) (Option.some Jvm.ClassFile.FieldType.int)) ∈ lw_all := lw_g (lw_at lw_m1 76 rfl) rfl
theorem q100 : (Jvm.Cond.methodLink "GraphPolynomials" (65 : Nat) ({ cls := "GraphPolynomials", name := "pointOf", desc := "(II)I" } : Jvm.MethodName)) ∈ lw_all := lw_g (lw_at lw_m1 77 rfl) rfl
theorem q101 : (Jvm.Cond.privateMethod ({ cls := "GraphPolynomials", name := "pointOf", desc := "(II)I" } : Jvm.MethodName)) ∈ lw_tbl := lw_at lw_m1 78 rfl
theorem q102 : (Jvm.Cond.instanceMethod ({ cls := "GraphPolynomials", name := "pointOf", desc := "(II)I" } : Jvm.MethodName)) ∈ lw_all := lw_g (lw_at lw_m1 79 rfl) rfl
theorem q103 : (Jvm.Cond.code ({ cls := "GraphPolynomials", name := "pointOf", desc := "(II)I" } : Jvm.MethodName) prog_1_method_16_code (3 : Nat) (Option.some Jvm.ClassFile.FieldType.int)) ∈ lw_all := lw_g (lw_at lw_m1 80 rfl) rfl
theorem q104 : (Jvm.Cond.methodLink "GraphPolynomials" (68 : Nat) ({ cls := "GraphPolynomials", name := "joined", desc := "(III)I" } : Jvm.MethodName)) ∈ lw_all := lw_g (lw_at lw_m1 81 rfl) rfl
theorem q105 : (Jvm.Cond.privateMethod ({ cls := "GraphPolynomials", name := "joined", desc := "(III)I" } : Jvm.MethodName)) ∈ lw_tbl := lw_at lw_m1 82 rfl
theorem q106 : (Jvm.Cond.instanceMethod ({ cls := "GraphPolynomials", name := "joined", desc := "(III)I" } : Jvm.MethodName)) ∈ lw_all := lw_g (lw_at lw_m1 83 rfl) rfl
theorem q107 : (Jvm.Cond.code ({ cls := "GraphPolynomials", name := "joined", desc := "(III)I" } : Jvm.MethodName) prog_1_method_17_code (9 : Nat) (Option.some Jvm.ClassFile.FieldType.int)) ∈ lw_all := lw_g (lw_at lw_m1 84 rfl) rfl
theorem q109 : (Jvm.Cond.instanceMethod ({ cls := "GraphPolynomials", name := "coefficient", desc := "(II)I" } : Jvm.MethodName)) ∈ lw_all := lw_g (lw_at lw_m1 86 rfl) rfl
theorem q110 : (Jvm.Cond.selects "GraphPolynomials" ({ cls := "GraphPolynomials", name := "coefficient", desc := "(II)I" } : Jvm.MethodName) ({ cls := "GraphPolynomials", name := "coefficient", desc := "(II)I" } : Jvm.MethodName)) ∈ lw_all := lw_g (lw_at lw_m1 87 rfl) rfl
theorem q111 : (Jvm.Cond.code ({ cls := "GraphPolynomials", name := "coefficient", desc := "(II)I" } : Jvm.MethodName) prog_1_method_7_code (3 : Nat) (Option.some Jvm.ClassFile.FieldType.int)) ∈ lw_all := lw_g (lw_at lw_m1 88 rfl) rfl
theorem q112 : (Jvm.Cond.methodLink "GraphPolynomials" (56 : Nat) ({ cls := "GraphPolynomials", name := "findPolynomial", desc := "()V" } : Jvm.MethodName)) ∈ lw_all := lw_g (lw_at lw_m1 89 rfl) rfl
theorem q113 : (Jvm.Cond.privateMethod ({ cls := "GraphPolynomials", name := "findPolynomial", desc := "()V" } : Jvm.MethodName)) ∈ lw_tbl := lw_at lw_m1 90 rfl
theorem q114 : (Jvm.Cond.instanceMethod ({ cls := "GraphPolynomials", name := "findPolynomial", desc := "()V" } : Jvm.MethodName)) ∈ lw_all := lw_g (lw_at lw_m1 91 rfl) rfl
theorem q115 : (Jvm.Cond.code ({ cls := "GraphPolynomials", name := "findPolynomial", desc := "()V" } : Jvm.MethodName) prog_1_method_20_code (2 : Nat) (Option.none : Option Jvm.ClassFile.FieldType)) ∈ lw_all := lw_g (lw_at lw_m1 92 rfl) rfl
theorem q116 : (Jvm.Cond.methodLink "GraphPolynomials" (75 : Nat) ({ cls := "GraphPolynomials", name := "push", desc := "(IIII)V" } : Jvm.MethodName)) ∈ lw_all := lw_g (lw_at lw_m1 93 rfl) rfl
theorem q117 : (Jvm.Cond.privateMethod ({ cls := "GraphPolynomials", name := "push", desc := "(IIII)V" } : Jvm.MethodName)) ∈ lw_tbl := lw_at lw_m1 94 rfl
theorem q118 : (Jvm.Cond.instanceMethod ({ cls := "GraphPolynomials", name := "push", desc := "(IIII)V" } : Jvm.MethodName)) ∈ lw_all := lw_g (lw_at lw_m1 95 rfl) rfl
theorem q119 : (Jvm.Cond.code ({ cls := "GraphPolynomials", name := "push", desc := "(IIII)V" } : Jvm.MethodName) prog_1_method_19_code (5 : Nat) (Option.none : Option Jvm.ClassFile.FieldType)) ∈ lw_all := lw_g (lw_at lw_m1 96 rfl) rfl
theorem q120 : (Jvm.Cond.methodLink "GraphPolynomials" (79 : Nat) ({ cls := "GraphPolynomials", name := "workOff", desc := "(IIII)V" } : Jvm.MethodName)) ∈ lw_all := lw_g (lw_at lw_m1 97 rfl) rfl
theorem q121 : (Jvm.Cond.privateMethod ({ cls := "GraphPolynomials", name := "workOff", desc := "(IIII)V" } : Jvm.MethodName)) ∈ lw_tbl := lw_at lw_m1 98 rfl
theorem q122 : (Jvm.Cond.instanceMethod ({ cls := "GraphPolynomials", name := "workOff", desc := "(IIII)V" } : Jvm.MethodName)) ∈ lw_all := lw_g (lw_at lw_m1 99 rfl) rfl
theorem q123 : (Jvm.Cond.code ({ cls := "GraphPolynomials", name := "workOff", desc := "(IIII)V" } : Jvm.MethodName) prog_1_method_21_code (11 : Nat) (Option.none : Option Jvm.ClassFile.FieldType)) ∈ lw_all := lw_g (lw_at lw_m1 100 rfl) rfl
theorem q125 : (Jvm.Cond.instanceMethod ({ cls := "GraphPolynomials", name := "trees", desc := "()I" } : Jvm.MethodName)) ∈ lw_all := lw_g (lw_at lw_m1 102 rfl) rfl
theorem q126 : (Jvm.Cond.selects "GraphPolynomials" ({ cls := "GraphPolynomials", name := "trees", desc := "()I" } : Jvm.MethodName) ({ cls := "GraphPolynomials", name := "trees", desc := "()I" } : Jvm.MethodName)) ∈ lw_all := lw_g (lw_at lw_m1 103 rfl) rfl
theorem q127 : (Jvm.Cond.code ({ cls := "GraphPolynomials", name := "trees", desc := "()I" } : Jvm.MethodName) prog_1_method_8_code (1 : Nat) (Option.some Jvm.ClassFile.FieldType.int)) ∈ lw_all := lw_g (lw_at lw_m1 104 rfl) rfl
theorem q128 : (Jvm.Cond.methodLink "GraphPolynomials" (59 : Nat) ({ cls := "GraphPolynomials", name := "valueAt", desc := "(II)I" } : Jvm.MethodName)) ∈ lw_all := lw_g (lw_at lw_m1 105 rfl) rfl
theorem q129 : (Jvm.Cond.privateMethod ({ cls := "GraphPolynomials", name := "valueAt", desc := "(II)I" } : Jvm.MethodName)) ∈ lw_tbl := lw_at lw_m1 106 rfl
theorem q130 : (Jvm.Cond.instanceMethod ({ cls := "GraphPolynomials", name := "valueAt", desc := "(II)I" } : Jvm.MethodName)) ∈ lw_all := lw_g (lw_at lw_m1 107 rfl) rfl
theorem q131 : (Jvm.Cond.code ({ cls := "GraphPolynomials", name := "valueAt", desc := "(II)I" } : Jvm.MethodName) prog_1_method_14_code (8 : Nat) (Option.some Jvm.ClassFile.FieldType.int)) ∈ lw_all := lw_g (lw_at lw_m1 108 rfl) rfl
theorem q133 : (Jvm.Cond.instanceMethod ({ cls := "GraphPolynomials", name := "forests", desc := "()I" } : Jvm.MethodName)) ∈ lw_all := lw_g (lw_at lw_m1 110 rfl) rfl
theorem q134 : (Jvm.Cond.selects "GraphPolynomials" ({ cls := "GraphPolynomials", name := "forests", desc := "()I" } : Jvm.MethodName) ({ cls := "GraphPolynomials", name := "forests", desc := "()I" } : Jvm.MethodName)) ∈ lw_all := lw_g (lw_at lw_m1 111 rfl) rfl
theorem q135 : (Jvm.Cond.code ({ cls := "GraphPolynomials", name := "forests", desc := "()I" } : Jvm.MethodName) prog_1_method_9_code (1 : Nat) (Option.some Jvm.ClassFile.FieldType.int)) ∈ lw_all := lw_g (lw_at lw_m1 112 rfl) rfl
theorem q137 : (Jvm.Cond.instanceMethod ({ cls := "GraphPolynomials", name := "spanning", desc := "()I" } : Jvm.MethodName)) ∈ lw_all := lw_g (lw_at lw_m1 114 rfl) rfl
theorem q138 : (Jvm.Cond.selects "GraphPolynomials" ({ cls := "GraphPolynomials", name := "spanning", desc := "()I" } : Jvm.MethodName) ({ cls := "GraphPolynomials", name := "spanning", desc := "()I" } : Jvm.MethodName)) ∈ lw_all := lw_g (lw_at lw_m1 115 rfl) rfl
theorem q139 : (Jvm.Cond.code ({ cls := "GraphPolynomials", name := "spanning", desc := "()I" } : Jvm.MethodName) prog_1_method_10_code (1 : Nat) (Option.some Jvm.ClassFile.FieldType.int)) ∈ lw_all := lw_g (lw_at lw_m1 116 rfl) rfl
theorem q141 : (Jvm.Cond.instanceMethod ({ cls := "GraphPolynomials", name := "colourings", desc := "(I)I" } : Jvm.MethodName)) ∈ lw_all := lw_g (lw_at lw_m1 118 rfl) rfl
theorem q142 : (Jvm.Cond.selects "GraphPolynomials" ({ cls := "GraphPolynomials", name := "colourings", desc := "(I)I" } : Jvm.MethodName) ({ cls := "GraphPolynomials", name := "colourings", desc := "(I)I" } : Jvm.MethodName)) ∈ lw_all := lw_g (lw_at lw_m1 119 rfl) rfl
theorem q143 : (Jvm.Cond.code ({ cls := "GraphPolynomials", name := "colourings", desc := "(I)I" } : Jvm.MethodName) prog_1_method_11_code (5 : Nat) (Option.some Jvm.ClassFile.FieldType.int)) ∈ lw_all := lw_g (lw_at lw_m1 120 rfl) rfl
theorem q144 : (Jvm.Cond.methodLink "GraphPolynomials" (62 : Nat) ({ cls := "GraphPolynomials", name := "parts", desc := "()I" } : Jvm.MethodName)) ∈ lw_all := lw_g (lw_at lw_m1 121 rfl) rfl
theorem q146 : (Jvm.Cond.instanceMethod ({ cls := "GraphPolynomials", name := "flows", desc := "(I)I" } : Jvm.MethodName)) ∈ lw_all := lw_g (lw_at lw_m1 123 rfl) rfl
theorem q147 : (Jvm.Cond.selects "GraphPolynomials" ({ cls := "GraphPolynomials", name := "flows", desc := "(I)I" } : Jvm.MethodName) ({ cls := "GraphPolynomials", name := "flows", desc := "(I)I" } : Jvm.MethodName)) ∈ lw_all := lw_g (lw_at lw_m1 124 rfl) rfl
theorem q148 : (Jvm.Cond.code ({ cls := "GraphPolynomials", name := "flows", desc := "(I)I" } : Jvm.MethodName) prog_1_method_12_code (4 : Nat) (Option.some Jvm.ClassFile.FieldType.int)) ∈ lw_all := lw_g (lw_at lw_m1 125 rfl) rfl
theorem q150 : (Jvm.Cond.instanceMethod ({ cls := "GraphPolynomials", name := "acyclic", desc := "()I" } : Jvm.MethodName)) ∈ lw_all := lw_g (lw_at lw_m1 127 rfl) rfl
theorem q151 : (Jvm.Cond.selects "GraphPolynomials" ({ cls := "GraphPolynomials", name := "acyclic", desc := "()I" } : Jvm.MethodName) ({ cls := "GraphPolynomials", name := "acyclic", desc := "()I" } : Jvm.MethodName)) ∈ lw_all := lw_g (lw_at lw_m1 128 rfl) rfl
theorem q152 : (Jvm.Cond.code ({ cls := "GraphPolynomials", name := "acyclic", desc := "()I" } : Jvm.MethodName) prog_1_method_13_code (1 : Nat) (Option.some Jvm.ClassFile.FieldType.int)) ∈ lw_all := lw_g (lw_at lw_m1 129 rfl) rfl
theorem in_X1 : ∀ w ∈ wsX10, w ∈ lw_all := lw_in wsX10 [45, 47, 49, 51, 53, 55, 57, 59, 61, 63, 65] (by decide +kernel) (by decide +kernel)
end
section
/-! GraphPolynomialsModel -/
set_option maxRecDepth 100000
def RX2 : String := "GraphPolynomialsModel"
def TX2 : u_T := fun k => match k with
  | 0 => ("GraphPolynomialsModel", "n", "I", false)
  | 1 => ("GraphPolynomialsModel", "m", "I", false)
  | 2 => ("GraphPolynomialsModel", "first", "[I", false)
  | 3 => ("GraphPolynomialsModel", "second", "[I", false)
  | 4 => ("GraphPolynomialsModel", "label", "[I", false)
  | 5 => ("GraphPolynomialsModel", "sums", "[I", false)
  | _ => ("GraphPolynomialsModel", "poly", "[J", false)
def tyX2 : Nat → FieldType := fun k => match k with
  | 0 => .int
  | 1 => .int
  | 2 => .array .int
  | 3 => .array .int
  | 4 => .array .int
  | 5 => .array .int
  | _ => .array .long
abbrev wsX20 : List Cond := u_ws RX2 TX2 7
theorem nmX2 : ∀ a, a < 7 → ∀ b, b < 7 → a ≠ b → (TX2 a).2.1 ≠ (TX2 b).2.1 := by decide +kernel
theorem tyX2_ok : ∀ k, k < 7 → parseFieldDescriptor (TX2 k).2.2.1 = some (tyX2 k) := by decide +kernel
abbrev cX2_init : ByteArray := prog_3_method_1_code
def yX2_init : MethodName := ⟨RX2, "<init>", "(I)V"⟩
theorem dX2_init_0 : decode cX2_init 0 = .ok (.aload_n 0, 1) := by decide +kernel
theorem dX2_init_1 : decode cX2_init 1 = .ok (.invokespecial 1, 3) := by decide +kernel
theorem dX2_init_4 : decode cX2_init 4 = .ok (.aload_n 0, 1) := by decide +kernel
theorem dX2_init_5 : decode cX2_init 5 = .ok (.iconst 0, 1) := by decide +kernel
theorem dX2_init_6 : decode cX2_init 6 = .ok (.putfield 7, 3) := by decide +kernel
theorem dX2_init_9 : decode cX2_init 9 = .ok (.aload_n 0, 1) := by decide +kernel
theorem dX2_init_10 : decode cX2_init 10 = .ok (.bipush 9, 2) := by decide +kernel
theorem dX2_init_12 : decode cX2_init 12 = .ok (.newarray .int, 2) := by decide +kernel
theorem dX2_init_14 : decode cX2_init 14 = .ok (.putfield 13, 3) := by decide +kernel
theorem dX2_init_17 : decode cX2_init 17 = .ok (.aload_n 0, 1) := by decide +kernel
theorem dX2_init_18 : decode cX2_init 18 = .ok (.bipush 9, 2) := by decide +kernel
theorem dX2_init_20 : decode cX2_init 20 = .ok (.newarray .int, 2) := by decide +kernel
theorem dX2_init_22 : decode cX2_init 22 = .ok (.putfield 17, 3) := by decide +kernel
theorem dX2_init_25 : decode cX2_init 25 = .ok (.aload_n 0, 1) := by decide +kernel
theorem dX2_init_26 : decode cX2_init 26 = .ok (.bipush 6, 2) := by decide +kernel
theorem dX2_init_28 : decode cX2_init 28 = .ok (.newarray .int, 2) := by decide +kernel
theorem dX2_init_30 : decode cX2_init 30 = .ok (.putfield 20, 3) := by decide +kernel
theorem dX2_init_33 : decode cX2_init 33 = .ok (.aload_n 0, 1) := by decide +kernel
theorem dX2_init_34 : decode cX2_init 34 = .ok (.bipush 6, 2) := by decide +kernel
theorem dX2_init_36 : decode cX2_init 36 = .ok (.newarray .int, 2) := by decide +kernel
theorem dX2_init_38 : decode cX2_init 38 = .ok (.putfield 23, 3) := by decide +kernel
theorem dX2_init_41 : decode cX2_init 41 = .ok (.aload_n 0, 1) := by decide +kernel
theorem dX2_init_42 : decode cX2_init 42 = .ok (.bipush 81, 2) := by decide +kernel
theorem dX2_init_44 : decode cX2_init 44 = .ok (.newarray .long, 2) := by decide +kernel
theorem dX2_init_46 : decode cX2_init 46 = .ok (.putfield 26, 3) := by decide +kernel
theorem dX2_init_49 : decode cX2_init 49 = .ok (.aload_n 0, 1) := by decide +kernel
theorem dX2_init_50 : decode cX2_init 50 = .ok (.iload_n 1, 1) := by decide +kernel
theorem dX2_init_51 : decode cX2_init 51 = .ok (.iconst 1, 1) := by decide +kernel
theorem dX2_init_52 : decode cX2_init 52 = .ok (.if_icmp .ge 7, 3) := by decide +kernel
theorem dX2_init_55 : decode cX2_init 55 = .ok (.iconst 1, 1) := by decide +kernel
theorem dX2_init_56 : decode cX2_init 56 = .ok (.goto 15, 3) := by decide +kernel
theorem dX2_init_59 : decode cX2_init 59 = .ok (.iload_n 1, 1) := by decide +kernel
theorem dX2_init_60 : decode cX2_init 60 = .ok (.bipush 6, 2) := by decide +kernel
theorem dX2_init_62 : decode cX2_init 62 = .ok (.if_icmp .le 8, 3) := by decide +kernel
theorem dX2_init_65 : decode cX2_init 65 = .ok (.bipush 6, 2) := by decide +kernel
theorem dX2_init_67 : decode cX2_init 67 = .ok (.goto 4, 3) := by decide +kernel
theorem dX2_init_70 : decode cX2_init 70 = .ok (.iload_n 1, 1) := by decide +kernel
theorem dX2_init_71 : decode cX2_init 71 = .ok (.putfield 30, 3) := by decide +kernel
theorem dX2_init_74 : decode cX2_init 74 = .ok (.return_, 1) := by decide +kernel
abbrev cX2_add : ByteArray := prog_3_method_4_code
def yX2_add : MethodName := ⟨RX2, "add", "(II)I"⟩
theorem dX2_add_0 : decode cX2_add 0 = .ok (.aload_n 0, 1) := by decide +kernel
theorem dX2_add_1 : decode cX2_add 1 = .ok (.getfield 7, 3) := by decide +kernel
theorem dX2_add_4 : decode cX2_add 4 = .ok (.bipush 8, 2) := by decide +kernel
theorem dX2_add_6 : decode cX2_add 6 = .ok (.if_icmp .ne 6, 3) := by decide +kernel
theorem dX2_add_9 : decode cX2_add 9 = .ok (.bipush (-2), 2) := by decide +kernel
theorem dX2_add_11 : decode cX2_add 11 = .ok (.ireturn, 1) := by decide +kernel
theorem dX2_add_12 : decode cX2_add 12 = .ok (.aload_n 0, 1) := by decide +kernel
theorem dX2_add_13 : decode cX2_add 13 = .ok (.iload_n 1, 1) := by decide +kernel
theorem dX2_add_14 : decode cX2_add 14 = .ok (.invokevirtual 33, 3) := by decide +kernel
theorem dX2_add_17 : decode cX2_add 17 = .ok (.ifCond .eq 11, 3) := by decide +kernel
theorem dX2_add_20 : decode cX2_add 20 = .ok (.aload_n 0, 1) := by decide +kernel
theorem dX2_add_21 : decode cX2_add 21 = .ok (.iload_n 2, 1) := by decide +kernel
theorem dX2_add_22 : decode cX2_add 22 = .ok (.invokevirtual 33, 3) := by decide +kernel
theorem dX2_add_25 : decode cX2_add 25 = .ok (.ifCond .ne 5, 3) := by decide +kernel
theorem dX2_add_28 : decode cX2_add 28 = .ok (.iconst (-1), 1) := by decide +kernel
theorem dX2_add_29 : decode cX2_add 29 = .ok (.ireturn, 1) := by decide +kernel
theorem dX2_add_30 : decode cX2_add 30 = .ok (.aload_n 0, 1) := by decide +kernel
theorem dX2_add_31 : decode cX2_add 31 = .ok (.getfield 13, 3) := by decide +kernel
theorem dX2_add_34 : decode cX2_add 34 = .ok (.aload_n 0, 1) := by decide +kernel
theorem dX2_add_35 : decode cX2_add 35 = .ok (.getfield 7, 3) := by decide +kernel
theorem dX2_add_38 : decode cX2_add 38 = .ok (.iload_n 1, 1) := by decide +kernel
theorem dX2_add_39 : decode cX2_add 39 = .ok (.iastore, 1) := by decide +kernel
theorem dX2_add_40 : decode cX2_add 40 = .ok (.aload_n 0, 1) := by decide +kernel
theorem dX2_add_41 : decode cX2_add 41 = .ok (.getfield 17, 3) := by decide +kernel
theorem dX2_add_44 : decode cX2_add 44 = .ok (.aload_n 0, 1) := by decide +kernel
theorem dX2_add_45 : decode cX2_add 45 = .ok (.getfield 7, 3) := by decide +kernel
theorem dX2_add_48 : decode cX2_add 48 = .ok (.iload_n 2, 1) := by decide +kernel
theorem dX2_add_49 : decode cX2_add 49 = .ok (.iastore, 1) := by decide +kernel
theorem dX2_add_50 : decode cX2_add 50 = .ok (.aload_n 0, 1) := by decide +kernel
theorem dX2_add_51 : decode cX2_add 51 = .ok (.dup, 1) := by decide +kernel
theorem dX2_add_52 : decode cX2_add 52 = .ok (.getfield 7, 3) := by decide +kernel
theorem dX2_add_55 : decode cX2_add 55 = .ok (.iconst 1, 1) := by decide +kernel
theorem dX2_add_56 : decode cX2_add 56 = .ok (.iadd, 1) := by decide +kernel
theorem dX2_add_57 : decode cX2_add 57 = .ok (.putfield 7, 3) := by decide +kernel
theorem dX2_add_60 : decode cX2_add 60 = .ok (.aload_n 0, 1) := by decide +kernel
theorem dX2_add_61 : decode cX2_add 61 = .ok (.getfield 7, 3) := by decide +kernel
theorem dX2_add_64 : decode cX2_add 64 = .ok (.ireturn, 1) := by decide +kernel
abbrev cX2_isPoint : ByteArray := prog_3_method_2_code
def yX2_isPoint : MethodName := ⟨RX2, "isPoint", "(I)Z"⟩
theorem dX2_isPoint_0 : decode cX2_isPoint 0 = .ok (.iload_n 1, 1) := by decide +kernel
theorem dX2_isPoint_1 : decode cX2_isPoint 1 = .ok (.ifCond .lt 15, 3) := by decide +kernel
theorem dX2_isPoint_4 : decode cX2_isPoint 4 = .ok (.iload_n 1, 1) := by decide +kernel
theorem dX2_isPoint_5 : decode cX2_isPoint 5 = .ok (.aload_n 0, 1) := by decide +kernel
theorem dX2_isPoint_6 : decode cX2_isPoint 6 = .ok (.getfield 30, 3) := by decide +kernel
theorem dX2_isPoint_9 : decode cX2_isPoint 9 = .ok (.if_icmp .ge 7, 3) := by decide +kernel
theorem dX2_isPoint_12 : decode cX2_isPoint 12 = .ok (.iconst 1, 1) := by decide +kernel
theorem dX2_isPoint_13 : decode cX2_isPoint 13 = .ok (.goto 4, 3) := by decide +kernel
theorem dX2_isPoint_16 : decode cX2_isPoint 16 = .ok (.iconst 0, 1) := by decide +kernel
theorem dX2_isPoint_17 : decode cX2_isPoint 17 = .ok (.ireturn, 1) := by decide +kernel
abbrev cX2_drop : ByteArray := prog_3_method_5_code
def yX2_drop : MethodName := ⟨RX2, "drop", "(I)I"⟩
theorem dX2_drop_0 : decode cX2_drop 0 = .ok (.aload_n 0, 1) := by decide +kernel
theorem dX2_drop_1 : decode cX2_drop 1 = .ok (.iload_n 1, 1) := by decide +kernel
theorem dX2_drop_2 : decode cX2_drop 2 = .ok (.invokevirtual 37, 3) := by decide +kernel
theorem dX2_drop_5 : decode cX2_drop 5 = .ok (.ifCond .ne 5, 3) := by decide +kernel
theorem dX2_drop_8 : decode cX2_drop 8 = .ok (.iconst (-1), 1) := by decide +kernel
theorem dX2_drop_9 : decode cX2_drop 9 = .ok (.ireturn, 1) := by decide +kernel
theorem dX2_drop_10 : decode cX2_drop 10 = .ok (.iload_n 1, 1) := by decide +kernel
theorem dX2_drop_11 : decode cX2_drop 11 = .ok (.istore_n 2, 1) := by decide +kernel
theorem dX2_drop_12 : decode cX2_drop 12 = .ok (.iload_n 2, 1) := by decide +kernel
theorem dX2_drop_13 : decode cX2_drop 13 = .ok (.aload_n 0, 1) := by decide +kernel
theorem dX2_drop_14 : decode cX2_drop 14 = .ok (.getfield 7, 3) := by decide +kernel
theorem dX2_drop_17 : decode cX2_drop 17 = .ok (.iconst 1, 1) := by decide +kernel
theorem dX2_drop_18 : decode cX2_drop 18 = .ok (.isub, 1) := by decide +kernel
theorem dX2_drop_19 : decode cX2_drop 19 = .ok (.if_icmp .ge 37, 3) := by decide +kernel
theorem dX2_drop_22 : decode cX2_drop 22 = .ok (.aload_n 0, 1) := by decide +kernel
theorem dX2_drop_23 : decode cX2_drop 23 = .ok (.getfield 13, 3) := by decide +kernel
theorem dX2_drop_26 : decode cX2_drop 26 = .ok (.iload_n 2, 1) := by decide +kernel
theorem dX2_drop_27 : decode cX2_drop 27 = .ok (.aload_n 0, 1) := by decide +kernel
theorem dX2_drop_28 : decode cX2_drop 28 = .ok (.getfield 13, 3) := by decide +kernel
theorem dX2_drop_31 : decode cX2_drop 31 = .ok (.iload_n 2, 1) := by decide +kernel
theorem dX2_drop_32 : decode cX2_drop 32 = .ok (.iconst 1, 1) := by decide +kernel
theorem dX2_drop_33 : decode cX2_drop 33 = .ok (.iadd, 1) := by decide +kernel
theorem dX2_drop_34 : decode cX2_drop 34 = .ok (.iaload, 1) := by decide +kernel
theorem dX2_drop_35 : decode cX2_drop 35 = .ok (.iastore, 1) := by decide +kernel
theorem dX2_drop_36 : decode cX2_drop 36 = .ok (.aload_n 0, 1) := by decide +kernel
theorem dX2_drop_37 : decode cX2_drop 37 = .ok (.getfield 17, 3) := by decide +kernel
theorem dX2_drop_40 : decode cX2_drop 40 = .ok (.iload_n 2, 1) := by decide +kernel
theorem dX2_drop_41 : decode cX2_drop 41 = .ok (.aload_n 0, 1) := by decide +kernel
theorem dX2_drop_42 : decode cX2_drop 42 = .ok (.getfield 17, 3) := by decide +kernel
theorem dX2_drop_45 : decode cX2_drop 45 = .ok (.iload_n 2, 1) := by decide +kernel
theorem dX2_drop_46 : decode cX2_drop 46 = .ok (.iconst 1, 1) := by decide +kernel
theorem dX2_drop_47 : decode cX2_drop 47 = .ok (.iadd, 1) := by decide +kernel
theorem dX2_drop_48 : decode cX2_drop 48 = .ok (.iaload, 1) := by decide +kernel
theorem dX2_drop_49 : decode cX2_drop 49 = .ok (.iastore, 1) := by decide +kernel
theorem dX2_drop_50 : decode cX2_drop 50 = .ok (.iinc 2 1, 3) := by decide +kernel
theorem dX2_drop_53 : decode cX2_drop 53 = .ok (.goto (-41), 3) := by decide +kernel
theorem dX2_drop_56 : decode cX2_drop 56 = .ok (.aload_n 0, 1) := by decide +kernel
theorem dX2_drop_57 : decode cX2_drop 57 = .ok (.dup, 1) := by decide +kernel
theorem dX2_drop_58 : decode cX2_drop 58 = .ok (.getfield 7, 3) := by decide +kernel
theorem dX2_drop_61 : decode cX2_drop 61 = .ok (.iconst 1, 1) := by decide +kernel
theorem dX2_drop_62 : decode cX2_drop 62 = .ok (.isub, 1) := by decide +kernel
theorem dX2_drop_63 : decode cX2_drop 63 = .ok (.putfield 7, 3) := by decide +kernel
theorem dX2_drop_66 : decode cX2_drop 66 = .ok (.aload_n 0, 1) := by decide +kernel
theorem dX2_drop_67 : decode cX2_drop 67 = .ok (.getfield 7, 3) := by decide +kernel
theorem dX2_drop_70 : decode cX2_drop 70 = .ok (.ireturn, 1) := by decide +kernel
abbrev cX2_isEdge : ByteArray := prog_3_method_3_code
def yX2_isEdge : MethodName := ⟨RX2, "isEdge", "(I)Z"⟩
theorem dX2_isEdge_0 : decode cX2_isEdge 0 = .ok (.iload_n 1, 1) := by decide +kernel
theorem dX2_isEdge_1 : decode cX2_isEdge 1 = .ok (.ifCond .lt 15, 3) := by decide +kernel
theorem dX2_isEdge_4 : decode cX2_isEdge 4 = .ok (.iload_n 1, 1) := by decide +kernel
theorem dX2_isEdge_5 : decode cX2_isEdge 5 = .ok (.aload_n 0, 1) := by decide +kernel
theorem dX2_isEdge_6 : decode cX2_isEdge 6 = .ok (.getfield 7, 3) := by decide +kernel
theorem dX2_isEdge_9 : decode cX2_isEdge 9 = .ok (.if_icmp .ge 7, 3) := by decide +kernel
theorem dX2_isEdge_12 : decode cX2_isEdge 12 = .ok (.iconst 1, 1) := by decide +kernel
theorem dX2_isEdge_13 : decode cX2_isEdge 13 = .ok (.goto 4, 3) := by decide +kernel
theorem dX2_isEdge_16 : decode cX2_isEdge 16 = .ok (.iconst 0, 1) := by decide +kernel
theorem dX2_isEdge_17 : decode cX2_isEdge 17 = .ok (.ireturn, 1) := by decide +kernel
abbrev cX2_merge : ByteArray := prog_3_method_6_code
def yX2_merge : MethodName := ⟨RX2, "merge", "(I)I"⟩
theorem dX2_merge_0 : decode cX2_merge 0 = .ok (.aload_n 0, 1) := by decide +kernel
theorem dX2_merge_1 : decode cX2_merge 1 = .ok (.iload_n 1, 1) := by decide +kernel
theorem dX2_merge_2 : decode cX2_merge 2 = .ok (.invokevirtual 37, 3) := by decide +kernel
theorem dX2_merge_5 : decode cX2_merge 5 = .ok (.ifCond .ne 5, 3) := by decide +kernel
theorem dX2_merge_8 : decode cX2_merge 8 = .ok (.iconst (-1), 1) := by decide +kernel
theorem dX2_merge_9 : decode cX2_merge 9 = .ok (.ireturn, 1) := by decide +kernel
theorem dX2_merge_10 : decode cX2_merge 10 = .ok (.aload_n 0, 1) := by decide +kernel
theorem dX2_merge_11 : decode cX2_merge 11 = .ok (.getfield 13, 3) := by decide +kernel
theorem dX2_merge_14 : decode cX2_merge 14 = .ok (.iload_n 1, 1) := by decide +kernel
theorem dX2_merge_15 : decode cX2_merge 15 = .ok (.iaload, 1) := by decide +kernel
theorem dX2_merge_16 : decode cX2_merge 16 = .ok (.aload_n 0, 1) := by decide +kernel
theorem dX2_merge_17 : decode cX2_merge 17 = .ok (.getfield 17, 3) := by decide +kernel
theorem dX2_merge_20 : decode cX2_merge 20 = .ok (.iload_n 1, 1) := by decide +kernel
theorem dX2_merge_21 : decode cX2_merge 21 = .ok (.iaload, 1) := by decide +kernel
theorem dX2_merge_22 : decode cX2_merge 22 = .ok (.if_icmp .ge 12, 3) := by decide +kernel
theorem dX2_merge_25 : decode cX2_merge 25 = .ok (.aload_n 0, 1) := by decide +kernel
theorem dX2_merge_26 : decode cX2_merge 26 = .ok (.getfield 13, 3) := by decide +kernel
theorem dX2_merge_29 : decode cX2_merge 29 = .ok (.iload_n 1, 1) := by decide +kernel
theorem dX2_merge_30 : decode cX2_merge 30 = .ok (.iaload, 1) := by decide +kernel
theorem dX2_merge_31 : decode cX2_merge 31 = .ok (.goto 9, 3) := by decide +kernel
theorem dX2_merge_34 : decode cX2_merge 34 = .ok (.aload_n 0, 1) := by decide +kernel
theorem dX2_merge_35 : decode cX2_merge 35 = .ok (.getfield 17, 3) := by decide +kernel
theorem dX2_merge_38 : decode cX2_merge 38 = .ok (.iload_n 1, 1) := by decide +kernel
theorem dX2_merge_39 : decode cX2_merge 39 = .ok (.iaload, 1) := by decide +kernel
theorem dX2_merge_40 : decode cX2_merge 40 = .ok (.istore_n 2, 1) := by decide +kernel
theorem dX2_merge_41 : decode cX2_merge 41 = .ok (.aload_n 0, 1) := by decide +kernel
theorem dX2_merge_42 : decode cX2_merge 42 = .ok (.getfield 13, 3) := by decide +kernel
theorem dX2_merge_45 : decode cX2_merge 45 = .ok (.iload_n 1, 1) := by decide +kernel
theorem dX2_merge_46 : decode cX2_merge 46 = .ok (.iaload, 1) := by decide +kernel
theorem dX2_merge_47 : decode cX2_merge 47 = .ok (.aload_n 0, 1) := by decide +kernel
theorem dX2_merge_48 : decode cX2_merge 48 = .ok (.getfield 17, 3) := by decide +kernel
theorem dX2_merge_51 : decode cX2_merge 51 = .ok (.iload_n 1, 1) := by decide +kernel
theorem dX2_merge_52 : decode cX2_merge 52 = .ok (.iaload, 1) := by decide +kernel
theorem dX2_merge_53 : decode cX2_merge 53 = .ok (.if_icmp .ge 12, 3) := by decide +kernel
theorem dX2_merge_56 : decode cX2_merge 56 = .ok (.aload_n 0, 1) := by decide +kernel
theorem dX2_merge_57 : decode cX2_merge 57 = .ok (.getfield 17, 3) := by decide +kernel
theorem dX2_merge_60 : decode cX2_merge 60 = .ok (.iload_n 1, 1) := by decide +kernel
theorem dX2_merge_61 : decode cX2_merge 61 = .ok (.iaload, 1) := by decide +kernel
theorem dX2_merge_62 : decode cX2_merge 62 = .ok (.goto 9, 3) := by decide +kernel
theorem dX2_merge_65 : decode cX2_merge 65 = .ok (.aload_n 0, 1) := by decide +kernel
theorem dX2_merge_66 : decode cX2_merge 66 = .ok (.getfield 13, 3) := by decide +kernel
theorem dX2_merge_69 : decode cX2_merge 69 = .ok (.iload_n 1, 1) := by decide +kernel
theorem dX2_merge_70 : decode cX2_merge 70 = .ok (.iaload, 1) := by decide +kernel
theorem dX2_merge_71 : decode cX2_merge 71 = .ok (.istore_n 3, 1) := by decide +kernel
theorem dX2_merge_72 : decode cX2_merge 72 = .ok (.aload_n 0, 1) := by decide +kernel
theorem dX2_merge_73 : decode cX2_merge 73 = .ok (.iload_n 1, 1) := by decide +kernel
theorem dX2_merge_74 : decode cX2_merge 74 = .ok (.invokevirtual 40, 3) := by decide +kernel
theorem dX2_merge_77 : decode cX2_merge 77 = .ok (.pop, 1) := by decide +kernel
theorem dX2_merge_78 : decode cX2_merge 78 = .ok (.iconst 0, 1) := by decide +kernel
theorem dX2_merge_79 : decode cX2_merge 79 = .ok (.istore 4, 2) := by decide +kernel
theorem dX2_merge_81 : decode cX2_merge 81 = .ok (.iload 4, 2) := by decide +kernel
theorem dX2_merge_83 : decode cX2_merge 83 = .ok (.aload_n 0, 1) := by decide +kernel
theorem dX2_merge_84 : decode cX2_merge 84 = .ok (.getfield 7, 3) := by decide +kernel
theorem dX2_merge_87 : decode cX2_merge 87 = .ok (.if_icmp .ge 47, 3) := by decide +kernel
theorem dX2_merge_90 : decode cX2_merge 90 = .ok (.aload_n 0, 1) := by decide +kernel
theorem dX2_merge_91 : decode cX2_merge 91 = .ok (.getfield 13, 3) := by decide +kernel
theorem dX2_merge_94 : decode cX2_merge 94 = .ok (.iload 4, 2) := by decide +kernel
theorem dX2_merge_96 : decode cX2_merge 96 = .ok (.iaload, 1) := by decide +kernel
theorem dX2_merge_97 : decode cX2_merge 97 = .ok (.iload_n 3, 1) := by decide +kernel
theorem dX2_merge_98 : decode cX2_merge 98 = .ok (.if_icmp .ne 11, 3) := by decide +kernel
theorem dX2_merge_101 : decode cX2_merge 101 = .ok (.aload_n 0, 1) := by decide +kernel
theorem dX2_merge_102 : decode cX2_merge 102 = .ok (.getfield 13, 3) := by decide +kernel
theorem dX2_merge_105 : decode cX2_merge 105 = .ok (.iload 4, 2) := by decide +kernel
theorem dX2_merge_107 : decode cX2_merge 107 = .ok (.iload_n 2, 1) := by decide +kernel
theorem dX2_merge_108 : decode cX2_merge 108 = .ok (.iastore, 1) := by decide +kernel
theorem dX2_merge_109 : decode cX2_merge 109 = .ok (.aload_n 0, 1) := by decide +kernel
theorem dX2_merge_110 : decode cX2_merge 110 = .ok (.getfield 17, 3) := by decide +kernel
theorem dX2_merge_113 : decode cX2_merge 113 = .ok (.iload 4, 2) := by decide +kernel
theorem dX2_merge_115 : decode cX2_merge 115 = .ok (.iaload, 1) := by decide +kernel
theorem dX2_merge_116 : decode cX2_merge 116 = .ok (.iload_n 3, 1) := by decide +kernel
theorem dX2_merge_117 : decode cX2_merge 117 = .ok (.if_icmp .ne 11, 3) := by decide +kernel
theorem dX2_merge_120 : decode cX2_merge 120 = .ok (.aload_n 0, 1) := by decide +kernel
theorem dX2_merge_121 : decode cX2_merge 121 = .ok (.getfield 17, 3) := by decide +kernel
theorem dX2_merge_124 : decode cX2_merge 124 = .ok (.iload 4, 2) := by decide +kernel
theorem dX2_merge_126 : decode cX2_merge 126 = .ok (.iload_n 2, 1) := by decide +kernel
theorem dX2_merge_127 : decode cX2_merge 127 = .ok (.iastore, 1) := by decide +kernel
theorem dX2_merge_128 : decode cX2_merge 128 = .ok (.iinc 4 1, 3) := by decide +kernel
theorem dX2_merge_131 : decode cX2_merge 131 = .ok (.goto (-50), 3) := by decide +kernel
theorem dX2_merge_134 : decode cX2_merge 134 = .ok (.aload_n 0, 1) := by decide +kernel
theorem dX2_merge_135 : decode cX2_merge 135 = .ok (.getfield 7, 3) := by decide +kernel
theorem dX2_merge_138 : decode cX2_merge 138 = .ok (.ireturn, 1) := by decide +kernel
abbrev cX2_edges : ByteArray := prog_3_method_7_code
def yX2_edges : MethodName := ⟨RX2, "edges", "()I"⟩
theorem dX2_edges_0 : decode cX2_edges 0 = .ok (.aload_n 0, 1) := by decide +kernel
theorem dX2_edges_1 : decode cX2_edges 1 = .ok (.getfield 7, 3) := by decide +kernel
theorem dX2_edges_4 : decode cX2_edges 4 = .ok (.ireturn, 1) := by decide +kernel
abbrev cX2_parts : ByteArray := prog_3_method_14_code
def yX2_parts : MethodName := ⟨RX2, "parts", "()I"⟩
theorem dX2_parts_0 : decode cX2_parts 0 = .ok (.aload_n 0, 1) := by decide +kernel
theorem dX2_parts_1 : decode cX2_parts 1 = .ok (.invokevirtual 55, 3) := by decide +kernel
theorem dX2_parts_4 : decode cX2_parts 4 = .ok (.istore_n 1, 1) := by decide +kernel
theorem dX2_parts_5 : decode cX2_parts 5 = .ok (.aload_n 0, 1) := by decide +kernel
theorem dX2_parts_6 : decode cX2_parts 6 = .ok (.iload_n 1, 1) := by decide +kernel
theorem dX2_parts_7 : decode cX2_parts 7 = .ok (.invokevirtual 52, 3) := by decide +kernel
theorem dX2_parts_10 : decode cX2_parts 10 = .ok (.ireturn, 1) := by decide +kernel
abbrev cX2_all : ByteArray := prog_3_method_13_code
def yX2_all : MethodName := ⟨RX2, "all", "()I"⟩
theorem dX2_all_0 : decode cX2_all 0 = .ok (.iconst 1, 1) := by decide +kernel
theorem dX2_all_1 : decode cX2_all 1 = .ok (.aload_n 0, 1) := by decide +kernel
theorem dX2_all_2 : decode cX2_all 2 = .ok (.getfield 7, 3) := by decide +kernel
theorem dX2_all_5 : decode cX2_all 5 = .ok (.ishl, 1) := by decide +kernel
theorem dX2_all_6 : decode cX2_all 6 = .ok (.iconst 1, 1) := by decide +kernel
theorem dX2_all_7 : decode cX2_all 7 = .ok (.isub, 1) := by decide +kernel
theorem dX2_all_8 : decode cX2_all 8 = .ok (.ireturn, 1) := by decide +kernel
abbrev cX2_partsOf : ByteArray := prog_3_method_11_code
def yX2_partsOf : MethodName := ⟨RX2, "partsOf", "(I)I"⟩
theorem dX2_partsOf_0 : decode cX2_partsOf 0 = .ok (.iconst 0, 1) := by decide +kernel
theorem dX2_partsOf_1 : decode cX2_partsOf 1 = .ok (.istore_n 2, 1) := by decide +kernel
theorem dX2_partsOf_2 : decode cX2_partsOf 2 = .ok (.iload_n 2, 1) := by decide +kernel
theorem dX2_partsOf_3 : decode cX2_partsOf 3 = .ok (.aload_n 0, 1) := by decide +kernel
theorem dX2_partsOf_4 : decode cX2_partsOf 4 = .ok (.getfield 30, 3) := by decide +kernel
theorem dX2_partsOf_7 : decode cX2_partsOf 7 = .ok (.if_icmp .ge 16, 3) := by decide +kernel
theorem dX2_partsOf_10 : decode cX2_partsOf 10 = .ok (.aload_n 0, 1) := by decide +kernel
theorem dX2_partsOf_11 : decode cX2_partsOf 11 = .ok (.getfield 20, 3) := by decide +kernel
theorem dX2_partsOf_14 : decode cX2_partsOf 14 = .ok (.iload_n 2, 1) := by decide +kernel
theorem dX2_partsOf_15 : decode cX2_partsOf 15 = .ok (.iload_n 2, 1) := by decide +kernel
theorem dX2_partsOf_16 : decode cX2_partsOf 16 = .ok (.iastore, 1) := by decide +kernel
theorem dX2_partsOf_17 : decode cX2_partsOf 17 = .ok (.iinc 2 1, 3) := by decide +kernel
theorem dX2_partsOf_20 : decode cX2_partsOf 20 = .ok (.goto (-18), 3) := by decide +kernel
theorem dX2_partsOf_23 : decode cX2_partsOf 23 = .ok (.iconst 0, 1) := by decide +kernel
theorem dX2_partsOf_24 : decode cX2_partsOf 24 = .ok (.istore_n 2, 1) := by decide +kernel
theorem dX2_partsOf_25 : decode cX2_partsOf 25 = .ok (.iload_n 2, 1) := by decide +kernel
theorem dX2_partsOf_26 : decode cX2_partsOf 26 = .ok (.bipush 6, 2) := by decide +kernel
theorem dX2_partsOf_28 : decode cX2_partsOf 28 = .ok (.if_icmp .ge 14, 3) := by decide +kernel
theorem dX2_partsOf_31 : decode cX2_partsOf 31 = .ok (.aload_n 0, 1) := by decide +kernel
theorem dX2_partsOf_32 : decode cX2_partsOf 32 = .ok (.iload_n 1, 1) := by decide +kernel
theorem dX2_partsOf_33 : decode cX2_partsOf 33 = .ok (.invokevirtual 48, 3) := by decide +kernel
theorem dX2_partsOf_36 : decode cX2_partsOf 36 = .ok (.iinc 2 1, 3) := by decide +kernel
theorem dX2_partsOf_39 : decode cX2_partsOf 39 = .ok (.goto (-14), 3) := by decide +kernel
theorem dX2_partsOf_42 : decode cX2_partsOf 42 = .ok (.iconst 0, 1) := by decide +kernel
theorem dX2_partsOf_43 : decode cX2_partsOf 43 = .ok (.istore_n 2, 1) := by decide +kernel
theorem dX2_partsOf_44 : decode cX2_partsOf 44 = .ok (.iconst 0, 1) := by decide +kernel
theorem dX2_partsOf_45 : decode cX2_partsOf 45 = .ok (.istore_n 3, 1) := by decide +kernel
theorem dX2_partsOf_46 : decode cX2_partsOf 46 = .ok (.iload_n 3, 1) := by decide +kernel
theorem dX2_partsOf_47 : decode cX2_partsOf 47 = .ok (.aload_n 0, 1) := by decide +kernel
theorem dX2_partsOf_48 : decode cX2_partsOf 48 = .ok (.getfield 30, 3) := by decide +kernel
theorem dX2_partsOf_51 : decode cX2_partsOf 51 = .ok (.if_icmp .ge 22, 3) := by decide +kernel
theorem dX2_partsOf_54 : decode cX2_partsOf 54 = .ok (.aload_n 0, 1) := by decide +kernel
theorem dX2_partsOf_55 : decode cX2_partsOf 55 = .ok (.getfield 20, 3) := by decide +kernel
theorem dX2_partsOf_58 : decode cX2_partsOf 58 = .ok (.iload_n 3, 1) := by decide +kernel
theorem dX2_partsOf_59 : decode cX2_partsOf 59 = .ok (.iaload, 1) := by decide +kernel
theorem dX2_partsOf_60 : decode cX2_partsOf 60 = .ok (.iload_n 3, 1) := by decide +kernel
theorem dX2_partsOf_61 : decode cX2_partsOf 61 = .ok (.if_icmp .ne 6, 3) := by decide +kernel
theorem dX2_partsOf_64 : decode cX2_partsOf 64 = .ok (.iinc 2 1, 3) := by decide +kernel
theorem dX2_partsOf_67 : decode cX2_partsOf 67 = .ok (.iinc 3 1, 3) := by decide +kernel
theorem dX2_partsOf_70 : decode cX2_partsOf 70 = .ok (.goto (-24), 3) := by decide +kernel
theorem dX2_partsOf_73 : decode cX2_partsOf 73 = .ok (.iload_n 2, 1) := by decide +kernel
theorem dX2_partsOf_74 : decode cX2_partsOf 74 = .ok (.ireturn, 1) := by decide +kernel
abbrev cX2_spread : ByteArray := prog_3_method_10_code
def yX2_spread : MethodName := ⟨RX2, "spread", "(I)V"⟩
theorem dX2_spread_0 : decode cX2_spread 0 = .ok (.iconst 0, 1) := by decide +kernel
theorem dX2_spread_1 : decode cX2_spread 1 = .ok (.istore_n 2, 1) := by decide +kernel
theorem dX2_spread_2 : decode cX2_spread 2 = .ok (.iload_n 2, 1) := by decide +kernel
theorem dX2_spread_3 : decode cX2_spread 3 = .ok (.aload_n 0, 1) := by decide +kernel
theorem dX2_spread_4 : decode cX2_spread 4 = .ok (.getfield 7, 3) := by decide +kernel
theorem dX2_spread_7 : decode cX2_spread 7 = .ok (.if_icmp .ge 93, 3) := by decide +kernel
theorem dX2_spread_10 : decode cX2_spread 10 = .ok (.aload_n 0, 1) := by decide +kernel
theorem dX2_spread_11 : decode cX2_spread 11 = .ok (.iload_n 1, 1) := by decide +kernel
theorem dX2_spread_12 : decode cX2_spread 12 = .ok (.iload_n 2, 1) := by decide +kernel
theorem dX2_spread_13 : decode cX2_spread 13 = .ok (.invokevirtual 44, 3) := by decide +kernel
theorem dX2_spread_16 : decode cX2_spread 16 = .ok (.ifCond .eq 78, 3) := by decide +kernel
theorem dX2_spread_19 : decode cX2_spread 19 = .ok (.aload_n 0, 1) := by decide +kernel
theorem dX2_spread_20 : decode cX2_spread 20 = .ok (.getfield 20, 3) := by decide +kernel
theorem dX2_spread_23 : decode cX2_spread 23 = .ok (.aload_n 0, 1) := by decide +kernel
theorem dX2_spread_24 : decode cX2_spread 24 = .ok (.getfield 13, 3) := by decide +kernel
theorem dX2_spread_27 : decode cX2_spread 27 = .ok (.iload_n 2, 1) := by decide +kernel
theorem dX2_spread_28 : decode cX2_spread 28 = .ok (.iaload, 1) := by decide +kernel
theorem dX2_spread_29 : decode cX2_spread 29 = .ok (.iaload, 1) := by decide +kernel
theorem dX2_spread_30 : decode cX2_spread 30 = .ok (.aload_n 0, 1) := by decide +kernel
theorem dX2_spread_31 : decode cX2_spread 31 = .ok (.getfield 20, 3) := by decide +kernel
theorem dX2_spread_34 : decode cX2_spread 34 = .ok (.aload_n 0, 1) := by decide +kernel
theorem dX2_spread_35 : decode cX2_spread 35 = .ok (.getfield 17, 3) := by decide +kernel
theorem dX2_spread_38 : decode cX2_spread 38 = .ok (.iload_n 2, 1) := by decide +kernel
theorem dX2_spread_39 : decode cX2_spread 39 = .ok (.iaload, 1) := by decide +kernel
theorem dX2_spread_40 : decode cX2_spread 40 = .ok (.iaload, 1) := by decide +kernel
theorem dX2_spread_41 : decode cX2_spread 41 = .ok (.if_icmp .ge 17, 3) := by decide +kernel
theorem dX2_spread_44 : decode cX2_spread 44 = .ok (.aload_n 0, 1) := by decide +kernel
theorem dX2_spread_45 : decode cX2_spread 45 = .ok (.getfield 20, 3) := by decide +kernel
theorem dX2_spread_48 : decode cX2_spread 48 = .ok (.aload_n 0, 1) := by decide +kernel
theorem dX2_spread_49 : decode cX2_spread 49 = .ok (.getfield 13, 3) := by decide +kernel
theorem dX2_spread_52 : decode cX2_spread 52 = .ok (.iload_n 2, 1) := by decide +kernel
theorem dX2_spread_53 : decode cX2_spread 53 = .ok (.iaload, 1) := by decide +kernel
theorem dX2_spread_54 : decode cX2_spread 54 = .ok (.iaload, 1) := by decide +kernel
theorem dX2_spread_55 : decode cX2_spread 55 = .ok (.goto 14, 3) := by decide +kernel
theorem dX2_spread_58 : decode cX2_spread 58 = .ok (.aload_n 0, 1) := by decide +kernel
theorem dX2_spread_59 : decode cX2_spread 59 = .ok (.getfield 20, 3) := by decide +kernel
theorem dX2_spread_62 : decode cX2_spread 62 = .ok (.aload_n 0, 1) := by decide +kernel
theorem dX2_spread_63 : decode cX2_spread 63 = .ok (.getfield 17, 3) := by decide +kernel
theorem dX2_spread_66 : decode cX2_spread 66 = .ok (.iload_n 2, 1) := by decide +kernel
theorem dX2_spread_67 : decode cX2_spread 67 = .ok (.iaload, 1) := by decide +kernel
theorem dX2_spread_68 : decode cX2_spread 68 = .ok (.iaload, 1) := by decide +kernel
theorem dX2_spread_69 : decode cX2_spread 69 = .ok (.istore_n 3, 1) := by decide +kernel
theorem dX2_spread_70 : decode cX2_spread 70 = .ok (.aload_n 0, 1) := by decide +kernel
theorem dX2_spread_71 : decode cX2_spread 71 = .ok (.getfield 20, 3) := by decide +kernel
theorem dX2_spread_74 : decode cX2_spread 74 = .ok (.aload_n 0, 1) := by decide +kernel
theorem dX2_spread_75 : decode cX2_spread 75 = .ok (.getfield 13, 3) := by decide +kernel
theorem dX2_spread_78 : decode cX2_spread 78 = .ok (.iload_n 2, 1) := by decide +kernel
theorem dX2_spread_79 : decode cX2_spread 79 = .ok (.iaload, 1) := by decide +kernel
theorem dX2_spread_80 : decode cX2_spread 80 = .ok (.iload_n 3, 1) := by decide +kernel
theorem dX2_spread_81 : decode cX2_spread 81 = .ok (.iastore, 1) := by decide +kernel
theorem dX2_spread_82 : decode cX2_spread 82 = .ok (.aload_n 0, 1) := by decide +kernel
theorem dX2_spread_83 : decode cX2_spread 83 = .ok (.getfield 20, 3) := by decide +kernel
theorem dX2_spread_86 : decode cX2_spread 86 = .ok (.aload_n 0, 1) := by decide +kernel
theorem dX2_spread_87 : decode cX2_spread 87 = .ok (.getfield 17, 3) := by decide +kernel
theorem dX2_spread_90 : decode cX2_spread 90 = .ok (.iload_n 2, 1) := by decide +kernel
theorem dX2_spread_91 : decode cX2_spread 91 = .ok (.iaload, 1) := by decide +kernel
theorem dX2_spread_92 : decode cX2_spread 92 = .ok (.iload_n 3, 1) := by decide +kernel
theorem dX2_spread_93 : decode cX2_spread 93 = .ok (.iastore, 1) := by decide +kernel
theorem dX2_spread_94 : decode cX2_spread 94 = .ok (.iinc 2 1, 3) := by decide +kernel
theorem dX2_spread_97 : decode cX2_spread 97 = .ok (.goto (-95), 3) := by decide +kernel
theorem dX2_spread_100 : decode cX2_spread 100 = .ok (.return_, 1) := by decide +kernel
abbrev cX2_in : ByteArray := prog_3_method_8_code
def yX2_in : MethodName := ⟨RX2, "in", "(II)Z"⟩
theorem dX2_in_0 : decode cX2_in 0 = .ok (.iload_n 1, 1) := by decide +kernel
theorem dX2_in_1 : decode cX2_in 1 = .ok (.iload_n 2, 1) := by decide +kernel
theorem dX2_in_2 : decode cX2_in 2 = .ok (.ishr, 1) := by decide +kernel
theorem dX2_in_3 : decode cX2_in 3 = .ok (.iconst 1, 1) := by decide +kernel
theorem dX2_in_4 : decode cX2_in 4 = .ok (.iand, 1) := by decide +kernel
theorem dX2_in_5 : decode cX2_in 5 = .ok (.iconst 1, 1) := by decide +kernel
theorem dX2_in_6 : decode cX2_in 6 = .ok (.if_icmp .ne 7, 3) := by decide +kernel
theorem dX2_in_9 : decode cX2_in 9 = .ok (.iconst 1, 1) := by decide +kernel
theorem dX2_in_10 : decode cX2_in 10 = .ok (.goto 4, 3) := by decide +kernel
theorem dX2_in_13 : decode cX2_in 13 = .ok (.iconst 0, 1) := by decide +kernel
theorem dX2_in_14 : decode cX2_in 14 = .ok (.ireturn, 1) := by decide +kernel
abbrev cX2_coefficient : ByteArray := prog_3_method_17_code
def yX2_coefficient : MethodName := ⟨RX2, "coefficient", "(II)I"⟩
theorem dX2_coefficient_0 : decode cX2_coefficient 0 = .ok (.iload_n 1, 1) := by decide +kernel
theorem dX2_coefficient_1 : decode cX2_coefficient 1 = .ok (.ifCond .lt 19, 3) := by decide +kernel
theorem dX2_coefficient_4 : decode cX2_coefficient 4 = .ok (.iload_n 1, 1) := by decide +kernel
theorem dX2_coefficient_5 : decode cX2_coefficient 5 = .ok (.bipush 8, 2) := by decide +kernel
theorem dX2_coefficient_7 : decode cX2_coefficient 7 = .ok (.if_icmp .gt 13, 3) := by decide +kernel
theorem dX2_coefficient_10 : decode cX2_coefficient 10 = .ok (.iload_n 2, 1) := by decide +kernel
theorem dX2_coefficient_11 : decode cX2_coefficient 11 = .ok (.ifCond .lt 9, 3) := by decide +kernel
theorem dX2_coefficient_14 : decode cX2_coefficient 14 = .ok (.iload_n 2, 1) := by decide +kernel
theorem dX2_coefficient_15 : decode cX2_coefficient 15 = .ok (.bipush 8, 2) := by decide +kernel
theorem dX2_coefficient_17 : decode cX2_coefficient 17 = .ok (.if_icmp .le 5, 3) := by decide +kernel
theorem dX2_coefficient_20 : decode cX2_coefficient 20 = .ok (.iconst 0, 1) := by decide +kernel
theorem dX2_coefficient_21 : decode cX2_coefficient 21 = .ok (.ireturn, 1) := by decide +kernel
theorem dX2_coefficient_22 : decode cX2_coefficient 22 = .ok (.aload_n 0, 1) := by decide +kernel
theorem dX2_coefficient_23 : decode cX2_coefficient 23 = .ok (.invokevirtual 55, 3) := by decide +kernel
theorem dX2_coefficient_26 : decode cX2_coefficient 26 = .ok (.istore_n 3, 1) := by decide +kernel
theorem dX2_coefficient_27 : decode cX2_coefficient 27 = .ok (.aload_n 0, 1) := by decide +kernel
theorem dX2_coefficient_28 : decode cX2_coefficient 28 = .ok (.iload_n 3, 1) := by decide +kernel
theorem dX2_coefficient_29 : decode cX2_coefficient 29 = .ok (.invokevirtual 63, 3) := by decide +kernel
theorem dX2_coefficient_32 : decode cX2_coefficient 32 = .ok (.istore 4, 2) := by decide +kernel
theorem dX2_coefficient_34 : decode cX2_coefficient 34 = .ok (.iconst 0, 1) := by decide +kernel
theorem dX2_coefficient_35 : decode cX2_coefficient 35 = .ok (.istore 5, 2) := by decide +kernel
theorem dX2_coefficient_37 : decode cX2_coefficient 37 = .ok (.iload 5, 2) := by decide +kernel
theorem dX2_coefficient_39 : decode cX2_coefficient 39 = .ok (.bipush 81, 2) := by decide +kernel
theorem dX2_coefficient_41 : decode cX2_coefficient 41 = .ok (.if_icmp .ge 17, 3) := by decide +kernel
theorem dX2_coefficient_44 : decode cX2_coefficient 44 = .ok (.aload_n 0, 1) := by decide +kernel
theorem dX2_coefficient_45 : decode cX2_coefficient 45 = .ok (.getfield 26, 3) := by decide +kernel
theorem dX2_coefficient_48 : decode cX2_coefficient 48 = .ok (.iload 5, 2) := by decide +kernel
theorem dX2_coefficient_50 : decode cX2_coefficient 50 = .ok (.lconst 0, 1) := by decide +kernel
theorem dX2_coefficient_51 : decode cX2_coefficient 51 = .ok (.lastore, 1) := by decide +kernel
theorem dX2_coefficient_52 : decode cX2_coefficient 52 = .ok (.iinc 5 1, 3) := by decide +kernel
theorem dX2_coefficient_55 : decode cX2_coefficient 55 = .ok (.goto (-18), 3) := by decide +kernel
theorem dX2_coefficient_58 : decode cX2_coefficient 58 = .ok (.iconst 0, 1) := by decide +kernel
theorem dX2_coefficient_59 : decode cX2_coefficient 59 = .ok (.istore 5, 2) := by decide +kernel
theorem dX2_coefficient_61 : decode cX2_coefficient 61 = .ok (.iload 5, 2) := by decide +kernel
theorem dX2_coefficient_63 : decode cX2_coefficient 63 = .ok (.iload_n 3, 1) := by decide +kernel
theorem dX2_coefficient_64 : decode cX2_coefficient 64 = .ok (.if_icmp .gt 39, 3) := by decide +kernel
theorem dX2_coefficient_67 : decode cX2_coefficient 67 = .ok (.aload_n 0, 1) := by decide +kernel
theorem dX2_coefficient_68 : decode cX2_coefficient 68 = .ok (.iload 5, 2) := by decide +kernel
theorem dX2_coefficient_70 : decode cX2_coefficient 70 = .ok (.invokevirtual 63, 3) := by decide +kernel
theorem dX2_coefficient_73 : decode cX2_coefficient 73 = .ok (.istore 6, 2) := by decide +kernel
theorem dX2_coefficient_75 : decode cX2_coefficient 75 = .ok (.aload_n 0, 1) := by decide +kernel
theorem dX2_coefficient_76 : decode cX2_coefficient 76 = .ok (.iload 5, 2) := by decide +kernel
theorem dX2_coefficient_78 : decode cX2_coefficient 78 = .ok (.invokevirtual 66, 3) := by decide +kernel
theorem dX2_coefficient_81 : decode cX2_coefficient 81 = .ok (.istore 7, 2) := by decide +kernel
theorem dX2_coefficient_83 : decode cX2_coefficient 83 = .ok (.aload_n 0, 1) := by decide +kernel
theorem dX2_coefficient_84 : decode cX2_coefficient 84 = .ok (.iload 4, 2) := by decide +kernel
theorem dX2_coefficient_86 : decode cX2_coefficient 86 = .ok (.iload 6, 2) := by decide +kernel
theorem dX2_coefficient_88 : decode cX2_coefficient 88 = .ok (.isub, 1) := by decide +kernel
theorem dX2_coefficient_89 : decode cX2_coefficient 89 = .ok (.iload 7, 2) := by decide +kernel
theorem dX2_coefficient_91 : decode cX2_coefficient 91 = .ok (.iload 6, 2) := by decide +kernel
theorem dX2_coefficient_93 : decode cX2_coefficient 93 = .ok (.isub, 1) := by decide +kernel
theorem dX2_coefficient_94 : decode cX2_coefficient 94 = .ok (.invokevirtual 69, 3) := by decide +kernel
theorem dX2_coefficient_97 : decode cX2_coefficient 97 = .ok (.iinc 5 1, 3) := by decide +kernel
theorem dX2_coefficient_100 : decode cX2_coefficient 100 = .ok (.goto (-39), 3) := by decide +kernel
theorem dX2_coefficient_103 : decode cX2_coefficient 103 = .ok (.aload_n 0, 1) := by decide +kernel
theorem dX2_coefficient_104 : decode cX2_coefficient 104 = .ok (.getfield 26, 3) := by decide +kernel
theorem dX2_coefficient_107 : decode cX2_coefficient 107 = .ok (.bipush 9, 2) := by decide +kernel
theorem dX2_coefficient_109 : decode cX2_coefficient 109 = .ok (.iload_n 1, 1) := by decide +kernel
theorem dX2_coefficient_110 : decode cX2_coefficient 110 = .ok (.imul, 1) := by decide +kernel
theorem dX2_coefficient_111 : decode cX2_coefficient 111 = .ok (.iload_n 2, 1) := by decide +kernel
theorem dX2_coefficient_112 : decode cX2_coefficient 112 = .ok (.iadd, 1) := by decide +kernel
theorem dX2_coefficient_113 : decode cX2_coefficient 113 = .ok (.laload, 1) := by decide +kernel
theorem dX2_coefficient_114 : decode cX2_coefficient 114 = .ok (.l2i, 1) := by decide +kernel
theorem dX2_coefficient_115 : decode cX2_coefficient 115 = .ok (.ireturn, 1) := by decide +kernel
abbrev cX2_rank : ByteArray := prog_3_method_12_code
def yX2_rank : MethodName := ⟨RX2, "rank", "(I)I"⟩
theorem dX2_rank_0 : decode cX2_rank 0 = .ok (.aload_n 0, 1) := by decide +kernel
theorem dX2_rank_1 : decode cX2_rank 1 = .ok (.getfield 30, 3) := by decide +kernel
theorem dX2_rank_4 : decode cX2_rank 4 = .ok (.aload_n 0, 1) := by decide +kernel
theorem dX2_rank_5 : decode cX2_rank 5 = .ok (.iload_n 1, 1) := by decide +kernel
theorem dX2_rank_6 : decode cX2_rank 6 = .ok (.invokevirtual 52, 3) := by decide +kernel
theorem dX2_rank_9 : decode cX2_rank 9 = .ok (.isub, 1) := by decide +kernel
theorem dX2_rank_10 : decode cX2_rank 10 = .ok (.ireturn, 1) := by decide +kernel
end
section
set_option maxRecDepth 100000
abbrev cX2_sizeOf : ByteArray := prog_3_method_9_code
def yX2_sizeOf : MethodName := ⟨RX2, "sizeOf", "(I)I"⟩
theorem dX2_sizeOf_0 : decode cX2_sizeOf 0 = .ok (.iconst 0, 1) := by decide +kernel
theorem dX2_sizeOf_1 : decode cX2_sizeOf 1 = .ok (.istore_n 2, 1) := by decide +kernel
theorem dX2_sizeOf_2 : decode cX2_sizeOf 2 = .ok (.iconst 0, 1) := by decide +kernel
theorem dX2_sizeOf_3 : decode cX2_sizeOf 3 = .ok (.istore_n 3, 1) := by decide +kernel
theorem dX2_sizeOf_4 : decode cX2_sizeOf 4 = .ok (.iload_n 3, 1) := by decide +kernel
theorem dX2_sizeOf_5 : decode cX2_sizeOf 5 = .ok (.aload_n 0, 1) := by decide +kernel
theorem dX2_sizeOf_6 : decode cX2_sizeOf 6 = .ok (.getfield 7, 3) := by decide +kernel
theorem dX2_sizeOf_9 : decode cX2_sizeOf 9 = .ok (.if_icmp .ge 21, 3) := by decide +kernel
theorem dX2_sizeOf_12 : decode cX2_sizeOf 12 = .ok (.aload_n 0, 1) := by decide +kernel
theorem dX2_sizeOf_13 : decode cX2_sizeOf 13 = .ok (.iload_n 1, 1) := by decide +kernel
theorem dX2_sizeOf_14 : decode cX2_sizeOf 14 = .ok (.iload_n 3, 1) := by decide +kernel
theorem dX2_sizeOf_15 : decode cX2_sizeOf 15 = .ok (.invokevirtual 44, 3) := by decide +kernel
theorem dX2_sizeOf_18 : decode cX2_sizeOf 18 = .ok (.ifCond .eq 6, 3) := by decide +kernel
theorem dX2_sizeOf_21 : decode cX2_sizeOf 21 = .ok (.iinc 2 1, 3) := by decide +kernel
theorem dX2_sizeOf_24 : decode cX2_sizeOf 24 = .ok (.iinc 3 1, 3) := by decide +kernel
theorem dX2_sizeOf_27 : decode cX2_sizeOf 27 = .ok (.goto (-23), 3) := by decide +kernel
theorem dX2_sizeOf_30 : decode cX2_sizeOf 30 = .ok (.iload_n 2, 1) := by decide +kernel
theorem dX2_sizeOf_31 : decode cX2_sizeOf 31 = .ok (.ireturn, 1) := by decide +kernel
abbrev cX2_addTerm : ByteArray := prog_3_method_16_code
def yX2_addTerm : MethodName := ⟨RX2, "addTerm", "(II)V"⟩
theorem dX2_addTerm_0 : decode cX2_addTerm 0 = .ok (.iconst 0, 1) := by decide +kernel
theorem dX2_addTerm_1 : decode cX2_addTerm 1 = .ok (.istore_n 3, 1) := by decide +kernel
theorem dX2_addTerm_2 : decode cX2_addTerm 2 = .ok (.iload_n 3, 1) := by decide +kernel
theorem dX2_addTerm_3 : decode cX2_addTerm 3 = .ok (.iload_n 1, 1) := by decide +kernel
theorem dX2_addTerm_4 : decode cX2_addTerm 4 = .ok (.if_icmp .gt 76, 3) := by decide +kernel
theorem dX2_addTerm_7 : decode cX2_addTerm 7 = .ok (.iconst 0, 1) := by decide +kernel
theorem dX2_addTerm_8 : decode cX2_addTerm 8 = .ok (.istore 4, 2) := by decide +kernel
theorem dX2_addTerm_10 : decode cX2_addTerm 10 = .ok (.iload 4, 2) := by decide +kernel
theorem dX2_addTerm_12 : decode cX2_addTerm 12 = .ok (.iload_n 2, 1) := by decide +kernel
theorem dX2_addTerm_13 : decode cX2_addTerm 13 = .ok (.if_icmp .gt 61, 3) := by decide +kernel
theorem dX2_addTerm_16 : decode cX2_addTerm 16 = .ok (.aload_n 0, 1) := by decide +kernel
theorem dX2_addTerm_17 : decode cX2_addTerm 17 = .ok (.iload_n 1, 1) := by decide +kernel
theorem dX2_addTerm_18 : decode cX2_addTerm 18 = .ok (.iload_n 3, 1) := by decide +kernel
theorem dX2_addTerm_19 : decode cX2_addTerm 19 = .ok (.invokevirtual 59, 3) := by decide +kernel
theorem dX2_addTerm_22 : decode cX2_addTerm 22 = .ok (.aload_n 0, 1) := by decide +kernel
theorem dX2_addTerm_23 : decode cX2_addTerm 23 = .ok (.iload_n 2, 1) := by decide +kernel
theorem dX2_addTerm_24 : decode cX2_addTerm 24 = .ok (.iload 4, 2) := by decide +kernel
theorem dX2_addTerm_26 : decode cX2_addTerm 26 = .ok (.invokevirtual 59, 3) := by decide +kernel
theorem dX2_addTerm_29 : decode cX2_addTerm 29 = .ok (.lmul, 1) := by decide +kernel
theorem dX2_addTerm_30 : decode cX2_addTerm 30 = .ok (.lstore 5, 2) := by decide +kernel
theorem dX2_addTerm_32 : decode cX2_addTerm 32 = .ok (.aload_n 0, 1) := by decide +kernel
theorem dX2_addTerm_33 : decode cX2_addTerm 33 = .ok (.getfield 26, 3) := by decide +kernel
theorem dX2_addTerm_36 : decode cX2_addTerm 36 = .ok (.bipush 9, 2) := by decide +kernel
theorem dX2_addTerm_38 : decode cX2_addTerm 38 = .ok (.iload_n 3, 1) := by decide +kernel
theorem dX2_addTerm_39 : decode cX2_addTerm 39 = .ok (.imul, 1) := by decide +kernel
theorem dX2_addTerm_40 : decode cX2_addTerm 40 = .ok (.iload 4, 2) := by decide +kernel
theorem dX2_addTerm_42 : decode cX2_addTerm 42 = .ok (.iadd, 1) := by decide +kernel
theorem dX2_addTerm_43 : decode cX2_addTerm 43 = .ok (.dup2, 1) := by decide +kernel
theorem dX2_addTerm_44 : decode cX2_addTerm 44 = .ok (.laload, 1) := by decide +kernel
theorem dX2_addTerm_45 : decode cX2_addTerm 45 = .ok (.iload_n 1, 1) := by decide +kernel
theorem dX2_addTerm_46 : decode cX2_addTerm 46 = .ok (.iload_n 3, 1) := by decide +kernel
theorem dX2_addTerm_47 : decode cX2_addTerm 47 = .ok (.isub, 1) := by decide +kernel
theorem dX2_addTerm_48 : decode cX2_addTerm 48 = .ok (.iload_n 2, 1) := by decide +kernel
theorem dX2_addTerm_49 : decode cX2_addTerm 49 = .ok (.iadd, 1) := by decide +kernel
theorem dX2_addTerm_50 : decode cX2_addTerm 50 = .ok (.iload 4, 2) := by decide +kernel
theorem dX2_addTerm_52 : decode cX2_addTerm 52 = .ok (.isub, 1) := by decide +kernel
theorem dX2_addTerm_53 : decode cX2_addTerm 53 = .ok (.iconst 2, 1) := by decide +kernel
theorem dX2_addTerm_54 : decode cX2_addTerm 54 = .ok (.irem, 1) := by decide +kernel
theorem dX2_addTerm_55 : decode cX2_addTerm 55 = .ok (.ifCond .ne 8, 3) := by decide +kernel
theorem dX2_addTerm_58 : decode cX2_addTerm 58 = .ok (.lload 5, 2) := by decide +kernel
theorem dX2_addTerm_60 : decode cX2_addTerm 60 = .ok (.goto 6, 3) := by decide +kernel
theorem dX2_addTerm_63 : decode cX2_addTerm 63 = .ok (.lload 5, 2) := by decide +kernel
theorem dX2_addTerm_65 : decode cX2_addTerm 65 = .ok (.lneg, 1) := by decide +kernel
theorem dX2_addTerm_66 : decode cX2_addTerm 66 = .ok (.ladd, 1) := by decide +kernel
theorem dX2_addTerm_67 : decode cX2_addTerm 67 = .ok (.lastore, 1) := by decide +kernel
theorem dX2_addTerm_68 : decode cX2_addTerm 68 = .ok (.iinc 4 1, 3) := by decide +kernel
theorem dX2_addTerm_71 : decode cX2_addTerm 71 = .ok (.goto (-61), 3) := by decide +kernel
theorem dX2_addTerm_74 : decode cX2_addTerm 74 = .ok (.iinc 3 1, 3) := by decide +kernel
theorem dX2_addTerm_77 : decode cX2_addTerm 77 = .ok (.goto (-75), 3) := by decide +kernel
theorem dX2_addTerm_80 : decode cX2_addTerm 80 = .ok (.return_, 1) := by decide +kernel
abbrev cX2_choose : ByteArray := prog_3_method_15_code
def yX2_choose : MethodName := ⟨RX2, "choose", "(II)J"⟩
theorem dX2_choose_0 : decode cX2_choose 0 = .ok (.lconst 1, 1) := by decide +kernel
theorem dX2_choose_1 : decode cX2_choose 1 = .ok (.lstore_n 3, 1) := by decide +kernel
theorem dX2_choose_2 : decode cX2_choose 2 = .ok (.iconst 1, 1) := by decide +kernel
theorem dX2_choose_3 : decode cX2_choose 3 = .ok (.istore 5, 2) := by decide +kernel
theorem dX2_choose_5 : decode cX2_choose 5 = .ok (.iload 5, 2) := by decide +kernel
theorem dX2_choose_7 : decode cX2_choose 7 = .ok (.iload_n 2, 1) := by decide +kernel
theorem dX2_choose_8 : decode cX2_choose 8 = .ok (.if_icmp .gt 23, 3) := by decide +kernel
theorem dX2_choose_11 : decode cX2_choose 11 = .ok (.lload_n 3, 1) := by decide +kernel
theorem dX2_choose_12 : decode cX2_choose 12 = .ok (.iload_n 1, 1) := by decide +kernel
theorem dX2_choose_13 : decode cX2_choose 13 = .ok (.iload 5, 2) := by decide +kernel
theorem dX2_choose_15 : decode cX2_choose 15 = .ok (.isub, 1) := by decide +kernel
theorem dX2_choose_16 : decode cX2_choose 16 = .ok (.iconst 1, 1) := by decide +kernel
theorem dX2_choose_17 : decode cX2_choose 17 = .ok (.iadd, 1) := by decide +kernel
theorem dX2_choose_18 : decode cX2_choose 18 = .ok (.i2l, 1) := by decide +kernel
theorem dX2_choose_19 : decode cX2_choose 19 = .ok (.lmul, 1) := by decide +kernel
theorem dX2_choose_20 : decode cX2_choose 20 = .ok (.iload 5, 2) := by decide +kernel
theorem dX2_choose_22 : decode cX2_choose 22 = .ok (.i2l, 1) := by decide +kernel
theorem dX2_choose_23 : decode cX2_choose 23 = .ok (.ldiv, 1) := by decide +kernel
theorem dX2_choose_24 : decode cX2_choose 24 = .ok (.lstore_n 3, 1) := by decide +kernel
theorem dX2_choose_25 : decode cX2_choose 25 = .ok (.iinc 5 1, 3) := by decide +kernel
theorem dX2_choose_28 : decode cX2_choose 28 = .ok (.goto (-23), 3) := by decide +kernel
theorem dX2_choose_31 : decode cX2_choose 31 = .ok (.lload_n 3, 1) := by decide +kernel
theorem dX2_choose_32 : decode cX2_choose 32 = .ok (.lreturn, 1) := by decide +kernel
abbrev cX2_trees : ByteArray := prog_3_method_19_code
def yX2_trees : MethodName := ⟨RX2, "trees", "()I"⟩
theorem dX2_trees_0 : decode cX2_trees 0 = .ok (.aload_n 0, 1) := by decide +kernel
theorem dX2_trees_1 : decode cX2_trees 1 = .ok (.iconst 1, 1) := by decide +kernel
theorem dX2_trees_2 : decode cX2_trees 2 = .ok (.iconst 1, 1) := by decide +kernel
theorem dX2_trees_3 : decode cX2_trees 3 = .ok (.invokevirtual 73, 3) := by decide +kernel
theorem dX2_trees_6 : decode cX2_trees 6 = .ok (.ireturn, 1) := by decide +kernel
abbrev cX2_count : ByteArray := prog_3_method_18_code
def yX2_count : MethodName := ⟨RX2, "count", "(ZZ)I"⟩
theorem dX2_count_0 : decode cX2_count 0 = .ok (.aload_n 0, 1) := by decide +kernel
theorem dX2_count_1 : decode cX2_count 1 = .ok (.invokevirtual 55, 3) := by decide +kernel
theorem dX2_count_4 : decode cX2_count 4 = .ok (.istore_n 3, 1) := by decide +kernel
theorem dX2_count_5 : decode cX2_count 5 = .ok (.aload_n 0, 1) := by decide +kernel
theorem dX2_count_6 : decode cX2_count 6 = .ok (.iload_n 3, 1) := by decide +kernel
theorem dX2_count_7 : decode cX2_count 7 = .ok (.invokevirtual 63, 3) := by decide +kernel
theorem dX2_count_10 : decode cX2_count 10 = .ok (.istore 4, 2) := by decide +kernel
theorem dX2_count_12 : decode cX2_count 12 = .ok (.iconst 0, 1) := by decide +kernel
theorem dX2_count_13 : decode cX2_count 13 = .ok (.istore 5, 2) := by decide +kernel
theorem dX2_count_15 : decode cX2_count 15 = .ok (.iconst 0, 1) := by decide +kernel
theorem dX2_count_16 : decode cX2_count 16 = .ok (.istore 6, 2) := by decide +kernel
theorem dX2_count_18 : decode cX2_count 18 = .ok (.iload 6, 2) := by decide +kernel
theorem dX2_count_20 : decode cX2_count 20 = .ok (.iload_n 3, 1) := by decide +kernel
theorem dX2_count_21 : decode cX2_count 21 = .ok (.if_icmp .gt 46, 3) := by decide +kernel
theorem dX2_count_24 : decode cX2_count 24 = .ok (.aload_n 0, 1) := by decide +kernel
theorem dX2_count_25 : decode cX2_count 25 = .ok (.iload 6, 2) := by decide +kernel
theorem dX2_count_27 : decode cX2_count 27 = .ok (.invokevirtual 63, 3) := by decide +kernel
theorem dX2_count_30 : decode cX2_count 30 = .ok (.istore 7, 2) := by decide +kernel
theorem dX2_count_32 : decode cX2_count 32 = .ok (.iload_n 1, 1) := by decide +kernel
theorem dX2_count_33 : decode cX2_count 33 = .ok (.ifCond .eq 10, 3) := by decide +kernel
theorem dX2_count_36 : decode cX2_count 36 = .ok (.iload 7, 2) := by decide +kernel
theorem dX2_count_38 : decode cX2_count 38 = .ok (.iload 4, 2) := by decide +kernel
theorem dX2_count_40 : decode cX2_count 40 = .ok (.if_icmp .ne 21, 3) := by decide +kernel
theorem dX2_count_43 : decode cX2_count 43 = .ok (.iload_n 2, 1) := by decide +kernel
theorem dX2_count_44 : decode cX2_count 44 = .ok (.ifCond .eq 14, 3) := by decide +kernel
theorem dX2_count_47 : decode cX2_count 47 = .ok (.aload_n 0, 1) := by decide +kernel
theorem dX2_count_48 : decode cX2_count 48 = .ok (.iload 6, 2) := by decide +kernel
theorem dX2_count_50 : decode cX2_count 50 = .ok (.invokevirtual 66, 3) := by decide +kernel
theorem dX2_count_53 : decode cX2_count 53 = .ok (.iload 7, 2) := by decide +kernel
theorem dX2_count_55 : decode cX2_count 55 = .ok (.if_icmp .ne 6, 3) := by decide +kernel
theorem dX2_count_58 : decode cX2_count 58 = .ok (.iinc 5 1, 3) := by decide +kernel
theorem dX2_count_61 : decode cX2_count 61 = .ok (.iinc 6 1, 3) := by decide +kernel
theorem dX2_count_64 : decode cX2_count 64 = .ok (.goto (-46), 3) := by decide +kernel
theorem dX2_count_67 : decode cX2_count 67 = .ok (.iload 5, 2) := by decide +kernel
theorem dX2_count_69 : decode cX2_count 69 = .ok (.ireturn, 1) := by decide +kernel
abbrev cX2_forests : ByteArray := prog_3_method_20_code
def yX2_forests : MethodName := ⟨RX2, "forests", "()I"⟩
theorem dX2_forests_0 : decode cX2_forests 0 = .ok (.aload_n 0, 1) := by decide +kernel
theorem dX2_forests_1 : decode cX2_forests 1 = .ok (.iconst 0, 1) := by decide +kernel
theorem dX2_forests_2 : decode cX2_forests 2 = .ok (.iconst 1, 1) := by decide +kernel
theorem dX2_forests_3 : decode cX2_forests 3 = .ok (.invokevirtual 73, 3) := by decide +kernel
theorem dX2_forests_6 : decode cX2_forests 6 = .ok (.ireturn, 1) := by decide +kernel
abbrev cX2_spanning : ByteArray := prog_3_method_21_code
def yX2_spanning : MethodName := ⟨RX2, "spanning", "()I"⟩
theorem dX2_spanning_0 : decode cX2_spanning 0 = .ok (.aload_n 0, 1) := by decide +kernel
theorem dX2_spanning_1 : decode cX2_spanning 1 = .ok (.iconst 1, 1) := by decide +kernel
theorem dX2_spanning_2 : decode cX2_spanning 2 = .ok (.iconst 0, 1) := by decide +kernel
theorem dX2_spanning_3 : decode cX2_spanning 3 = .ok (.invokevirtual 73, 3) := by decide +kernel
theorem dX2_spanning_6 : decode cX2_spanning 6 = .ok (.ireturn, 1) := by decide +kernel
abbrev cX2_colourings : ByteArray := prog_3_method_24_code
def yX2_colourings : MethodName := ⟨RX2, "colourings", "(I)I"⟩
theorem dX2_colourings_0 : decode cX2_colourings 0 = .ok (.iload_n 1, 1) := by decide +kernel
theorem dX2_colourings_1 : decode cX2_colourings 1 = .ok (.ifCond .lt 9, 3) := by decide +kernel
theorem dX2_colourings_4 : decode cX2_colourings 4 = .ok (.iload_n 1, 1) := by decide +kernel
theorem dX2_colourings_5 : decode cX2_colourings 5 = .ok (.bipush 6, 2) := by decide +kernel
theorem dX2_colourings_7 : decode cX2_colourings 7 = .ok (.if_icmp .le 5, 3) := by decide +kernel
theorem dX2_colourings_10 : decode cX2_colourings 10 = .ok (.iconst (-1), 1) := by decide +kernel
theorem dX2_colourings_11 : decode cX2_colourings 11 = .ok (.ireturn, 1) := by decide +kernel
theorem dX2_colourings_12 : decode cX2_colourings 12 = .ok (.iconst 0, 1) := by decide +kernel
theorem dX2_colourings_13 : decode cX2_colourings 13 = .ok (.istore_n 2, 1) := by decide +kernel
theorem dX2_colourings_14 : decode cX2_colourings 14 = .ok (.aload_n 0, 1) := by decide +kernel
theorem dX2_colourings_15 : decode cX2_colourings 15 = .ok (.iload_n 1, 1) := by decide +kernel
theorem dX2_colourings_16 : decode cX2_colourings 16 = .ok (.aload_n 0, 1) := by decide +kernel
theorem dX2_colourings_17 : decode cX2_colourings 17 = .ok (.getfield 30, 3) := by decide +kernel
theorem dX2_colourings_20 : decode cX2_colourings 20 = .ok (.invokevirtual 77, 3) := by decide +kernel
theorem dX2_colourings_23 : decode cX2_colourings 23 = .ok (.istore_n 3, 1) := by decide +kernel
theorem dX2_colourings_24 : decode cX2_colourings 24 = .ok (.iconst 0, 1) := by decide +kernel
theorem dX2_colourings_25 : decode cX2_colourings 25 = .ok (.istore 4, 2) := by decide +kernel
theorem dX2_colourings_27 : decode cX2_colourings 27 = .ok (.iload 4, 2) := by decide +kernel
theorem dX2_colourings_29 : decode cX2_colourings 29 = .ok (.iload_n 3, 1) := by decide +kernel
theorem dX2_colourings_30 : decode cX2_colourings 30 = .ok (.if_icmp .ge 81, 3) := by decide +kernel
theorem dX2_colourings_33 : decode cX2_colourings 33 = .ok (.iconst 1, 1) := by decide +kernel
theorem dX2_colourings_34 : decode cX2_colourings 34 = .ok (.istore 5, 2) := by decide +kernel
theorem dX2_colourings_36 : decode cX2_colourings 36 = .ok (.iconst 0, 1) := by decide +kernel
theorem dX2_colourings_37 : decode cX2_colourings 37 = .ok (.istore 6, 2) := by decide +kernel
theorem dX2_colourings_39 : decode cX2_colourings 39 = .ok (.iload 6, 2) := by decide +kernel
theorem dX2_colourings_41 : decode cX2_colourings 41 = .ok (.aload_n 0, 1) := by decide +kernel
theorem dX2_colourings_42 : decode cX2_colourings 42 = .ok (.getfield 7, 3) := by decide +kernel
theorem dX2_colourings_45 : decode cX2_colourings 45 = .ok (.if_icmp .ge 52, 3) := by decide +kernel
theorem dX2_colourings_48 : decode cX2_colourings 48 = .ok (.iload 5, 2) := by decide +kernel
theorem dX2_colourings_50 : decode cX2_colourings 50 = .ok (.ifCond .eq 47, 3) := by decide +kernel
theorem dX2_colourings_53 : decode cX2_colourings 53 = .ok (.aload_n 0, 1) := by decide +kernel
theorem dX2_colourings_54 : decode cX2_colourings 54 = .ok (.iload 4, 2) := by decide +kernel
theorem dX2_colourings_56 : decode cX2_colourings 56 = .ok (.iload_n 1, 1) := by decide +kernel
theorem dX2_colourings_57 : decode cX2_colourings 57 = .ok (.aload_n 0, 1) := by decide +kernel
theorem dX2_colourings_58 : decode cX2_colourings 58 = .ok (.getfield 13, 3) := by decide +kernel
theorem dX2_colourings_61 : decode cX2_colourings 61 = .ok (.iload 6, 2) := by decide +kernel
theorem dX2_colourings_63 : decode cX2_colourings 63 = .ok (.iaload, 1) := by decide +kernel
theorem dX2_colourings_64 : decode cX2_colourings 64 = .ok (.invokevirtual 81, 3) := by decide +kernel
theorem dX2_colourings_67 : decode cX2_colourings 67 = .ok (.aload_n 0, 1) := by decide +kernel
theorem dX2_colourings_68 : decode cX2_colourings 68 = .ok (.iload 4, 2) := by decide +kernel
theorem dX2_colourings_70 : decode cX2_colourings 70 = .ok (.iload_n 1, 1) := by decide +kernel
theorem dX2_colourings_71 : decode cX2_colourings 71 = .ok (.aload_n 0, 1) := by decide +kernel
theorem dX2_colourings_72 : decode cX2_colourings 72 = .ok (.getfield 17, 3) := by decide +kernel
theorem dX2_colourings_75 : decode cX2_colourings 75 = .ok (.iload 6, 2) := by decide +kernel
theorem dX2_colourings_77 : decode cX2_colourings 77 = .ok (.iaload, 1) := by decide +kernel
theorem dX2_colourings_78 : decode cX2_colourings 78 = .ok (.invokevirtual 81, 3) := by decide +kernel
theorem dX2_colourings_81 : decode cX2_colourings 81 = .ok (.if_icmp .eq 7, 3) := by decide +kernel
theorem dX2_colourings_84 : decode cX2_colourings 84 = .ok (.iconst 1, 1) := by decide +kernel
theorem dX2_colourings_85 : decode cX2_colourings 85 = .ok (.goto 4, 3) := by decide +kernel
theorem dX2_colourings_88 : decode cX2_colourings 88 = .ok (.iconst 0, 1) := by decide +kernel
theorem dX2_colourings_89 : decode cX2_colourings 89 = .ok (.istore 5, 2) := by decide +kernel
theorem dX2_colourings_91 : decode cX2_colourings 91 = .ok (.iinc 6 1, 3) := by decide +kernel
theorem dX2_colourings_94 : decode cX2_colourings 94 = .ok (.goto (-55), 3) := by decide +kernel
theorem dX2_colourings_97 : decode cX2_colourings 97 = .ok (.iload 5, 2) := by decide +kernel
theorem dX2_colourings_99 : decode cX2_colourings 99 = .ok (.ifCond .eq 6, 3) := by decide +kernel
theorem dX2_colourings_102 : decode cX2_colourings 102 = .ok (.iinc 2 1, 3) := by decide +kernel
theorem dX2_colourings_105 : decode cX2_colourings 105 = .ok (.iinc 4 1, 3) := by decide +kernel
theorem dX2_colourings_108 : decode cX2_colourings 108 = .ok (.goto (-81), 3) := by decide +kernel
theorem dX2_colourings_111 : decode cX2_colourings 111 = .ok (.iload_n 2, 1) := by decide +kernel
theorem dX2_colourings_112 : decode cX2_colourings 112 = .ok (.ireturn, 1) := by decide +kernel
abbrev cX2_power : ByteArray := prog_3_method_23_code
def yX2_power : MethodName := ⟨RX2, "power", "(II)I"⟩
theorem dX2_power_0 : decode cX2_power 0 = .ok (.iconst 1, 1) := by decide +kernel
theorem dX2_power_1 : decode cX2_power 1 = .ok (.istore_n 3, 1) := by decide +kernel
theorem dX2_power_2 : decode cX2_power 2 = .ok (.iconst 0, 1) := by decide +kernel
theorem dX2_power_3 : decode cX2_power 3 = .ok (.istore 4, 2) := by decide +kernel
theorem dX2_power_5 : decode cX2_power 5 = .ok (.iload 4, 2) := by decide +kernel
theorem dX2_power_7 : decode cX2_power 7 = .ok (.iload_n 2, 1) := by decide +kernel
theorem dX2_power_8 : decode cX2_power 8 = .ok (.if_icmp .ge 13, 3) := by decide +kernel
theorem dX2_power_11 : decode cX2_power 11 = .ok (.iload_n 3, 1) := by decide +kernel
theorem dX2_power_12 : decode cX2_power 12 = .ok (.iload_n 1, 1) := by decide +kernel
theorem dX2_power_13 : decode cX2_power 13 = .ok (.imul, 1) := by decide +kernel
theorem dX2_power_14 : decode cX2_power 14 = .ok (.istore_n 3, 1) := by decide +kernel
theorem dX2_power_15 : decode cX2_power 15 = .ok (.iinc 4 1, 3) := by decide +kernel
theorem dX2_power_18 : decode cX2_power 18 = .ok (.goto (-13), 3) := by decide +kernel
theorem dX2_power_21 : decode cX2_power 21 = .ok (.iload_n 3, 1) := by decide +kernel
theorem dX2_power_22 : decode cX2_power 22 = .ok (.ireturn, 1) := by decide +kernel
abbrev cX2_digit : ByteArray := prog_3_method_22_code
def yX2_digit : MethodName := ⟨RX2, "digit", "(III)I"⟩
theorem dX2_digit_0 : decode cX2_digit 0 = .ok (.iload_n 1, 1) := by decide +kernel
theorem dX2_digit_1 : decode cX2_digit 1 = .ok (.istore 4, 2) := by decide +kernel
theorem dX2_digit_3 : decode cX2_digit 3 = .ok (.iconst 0, 1) := by decide +kernel
theorem dX2_digit_4 : decode cX2_digit 4 = .ok (.istore 5, 2) := by decide +kernel
theorem dX2_digit_6 : decode cX2_digit 6 = .ok (.iload 5, 2) := by decide +kernel
theorem dX2_digit_8 : decode cX2_digit 8 = .ok (.iload_n 3, 1) := by decide +kernel
theorem dX2_digit_9 : decode cX2_digit 9 = .ok (.if_icmp .ge 24, 3) := by decide +kernel
theorem dX2_digit_12 : decode cX2_digit 12 = .ok (.iload 4, 2) := by decide +kernel
theorem dX2_digit_14 : decode cX2_digit 14 = .ok (.iload_n 2, 1) := by decide +kernel
theorem dX2_digit_15 : decode cX2_digit 15 = .ok (.iconst 1, 1) := by decide +kernel
theorem dX2_digit_16 : decode cX2_digit 16 = .ok (.if_icmp .ge 7, 3) := by decide +kernel
theorem dX2_digit_19 : decode cX2_digit 19 = .ok (.iconst 1, 1) := by decide +kernel
theorem dX2_digit_20 : decode cX2_digit 20 = .ok (.goto 4, 3) := by decide +kernel
theorem dX2_digit_23 : decode cX2_digit 23 = .ok (.iload_n 2, 1) := by decide +kernel
theorem dX2_digit_24 : decode cX2_digit 24 = .ok (.idiv, 1) := by decide +kernel
theorem dX2_digit_25 : decode cX2_digit 25 = .ok (.istore 4, 2) := by decide +kernel
theorem dX2_digit_27 : decode cX2_digit 27 = .ok (.iinc 5 1, 3) := by decide +kernel
theorem dX2_digit_30 : decode cX2_digit 30 = .ok (.goto (-24), 3) := by decide +kernel
theorem dX2_digit_33 : decode cX2_digit 33 = .ok (.iload 4, 2) := by decide +kernel
theorem dX2_digit_35 : decode cX2_digit 35 = .ok (.iload_n 2, 1) := by decide +kernel
theorem dX2_digit_36 : decode cX2_digit 36 = .ok (.iconst 1, 1) := by decide +kernel
theorem dX2_digit_37 : decode cX2_digit 37 = .ok (.if_icmp .ge 7, 3) := by decide +kernel
theorem dX2_digit_40 : decode cX2_digit 40 = .ok (.iconst 1, 1) := by decide +kernel
theorem dX2_digit_41 : decode cX2_digit 41 = .ok (.goto 4, 3) := by decide +kernel
theorem dX2_digit_44 : decode cX2_digit 44 = .ok (.iload_n 2, 1) := by decide +kernel
theorem dX2_digit_45 : decode cX2_digit 45 = .ok (.irem, 1) := by decide +kernel
theorem dX2_digit_46 : decode cX2_digit 46 = .ok (.ireturn, 1) := by decide +kernel
abbrev cX2_flows : ByteArray := prog_3_method_26_code
def yX2_flows : MethodName := ⟨RX2, "flows", "(I)I"⟩
theorem dX2_flows_0 : decode cX2_flows 0 = .ok (.iload_n 1, 1) := by decide +kernel
theorem dX2_flows_1 : decode cX2_flows 1 = .ok (.iconst 1, 1) := by decide +kernel
theorem dX2_flows_2 : decode cX2_flows 2 = .ok (.if_icmp .lt 8, 3) := by decide +kernel
theorem dX2_flows_5 : decode cX2_flows 5 = .ok (.iload_n 1, 1) := by decide +kernel
theorem dX2_flows_6 : decode cX2_flows 6 = .ok (.iconst 4, 1) := by decide +kernel
theorem dX2_flows_7 : decode cX2_flows 7 = .ok (.if_icmp .le 5, 3) := by decide +kernel
theorem dX2_flows_10 : decode cX2_flows 10 = .ok (.iconst (-1), 1) := by decide +kernel
theorem dX2_flows_11 : decode cX2_flows 11 = .ok (.ireturn, 1) := by decide +kernel
theorem dX2_flows_12 : decode cX2_flows 12 = .ok (.iconst 0, 1) := by decide +kernel
theorem dX2_flows_13 : decode cX2_flows 13 = .ok (.istore_n 2, 1) := by decide +kernel
theorem dX2_flows_14 : decode cX2_flows 14 = .ok (.aload_n 0, 1) := by decide +kernel
theorem dX2_flows_15 : decode cX2_flows 15 = .ok (.iload_n 1, 1) := by decide +kernel
theorem dX2_flows_16 : decode cX2_flows 16 = .ok (.iconst 1, 1) := by decide +kernel
theorem dX2_flows_17 : decode cX2_flows 17 = .ok (.isub, 1) := by decide +kernel
theorem dX2_flows_18 : decode cX2_flows 18 = .ok (.aload_n 0, 1) := by decide +kernel
theorem dX2_flows_19 : decode cX2_flows 19 = .ok (.getfield 7, 3) := by decide +kernel
theorem dX2_flows_22 : decode cX2_flows 22 = .ok (.invokevirtual 77, 3) := by decide +kernel
theorem dX2_flows_25 : decode cX2_flows 25 = .ok (.istore_n 3, 1) := by decide +kernel
theorem dX2_flows_26 : decode cX2_flows 26 = .ok (.iconst 0, 1) := by decide +kernel
theorem dX2_flows_27 : decode cX2_flows 27 = .ok (.istore 4, 2) := by decide +kernel
theorem dX2_flows_29 : decode cX2_flows 29 = .ok (.iload 4, 2) := by decide +kernel
theorem dX2_flows_31 : decode cX2_flows 31 = .ok (.iload_n 3, 1) := by decide +kernel
theorem dX2_flows_32 : decode cX2_flows 32 = .ok (.if_icmp .ge 22, 3) := by decide +kernel
theorem dX2_flows_35 : decode cX2_flows 35 = .ok (.aload_n 0, 1) := by decide +kernel
theorem dX2_flows_36 : decode cX2_flows 36 = .ok (.iload 4, 2) := by decide +kernel
theorem dX2_flows_38 : decode cX2_flows 38 = .ok (.iload_n 1, 1) := by decide +kernel
theorem dX2_flows_39 : decode cX2_flows 39 = .ok (.invokevirtual 85, 3) := by decide +kernel
theorem dX2_flows_42 : decode cX2_flows 42 = .ok (.ifCond .eq 6, 3) := by decide +kernel
theorem dX2_flows_45 : decode cX2_flows 45 = .ok (.iinc 2 1, 3) := by decide +kernel
theorem dX2_flows_48 : decode cX2_flows 48 = .ok (.iinc 4 1, 3) := by decide +kernel
theorem dX2_flows_51 : decode cX2_flows 51 = .ok (.goto (-22), 3) := by decide +kernel
theorem dX2_flows_54 : decode cX2_flows 54 = .ok (.iload_n 2, 1) := by decide +kernel
theorem dX2_flows_55 : decode cX2_flows 55 = .ok (.ireturn, 1) := by decide +kernel
abbrev cX2_balanced : ByteArray := prog_3_method_25_code
def yX2_balanced : MethodName := ⟨RX2, "balanced", "(II)Z"⟩
theorem dX2_balanced_0 : decode cX2_balanced 0 = .ok (.iconst 0, 1) := by decide +kernel
theorem dX2_balanced_1 : decode cX2_balanced 1 = .ok (.istore_n 3, 1) := by decide +kernel
theorem dX2_balanced_2 : decode cX2_balanced 2 = .ok (.iload_n 3, 1) := by decide +kernel
theorem dX2_balanced_3 : decode cX2_balanced 3 = .ok (.aload_n 0, 1) := by decide +kernel
theorem dX2_balanced_4 : decode cX2_balanced 4 = .ok (.getfield 30, 3) := by decide +kernel
theorem dX2_balanced_7 : decode cX2_balanced 7 = .ok (.if_icmp .ge 16, 3) := by decide +kernel
theorem dX2_balanced_10 : decode cX2_balanced 10 = .ok (.aload_n 0, 1) := by decide +kernel
theorem dX2_balanced_11 : decode cX2_balanced 11 = .ok (.getfield 23, 3) := by decide +kernel
theorem dX2_balanced_14 : decode cX2_balanced 14 = .ok (.iload_n 3, 1) := by decide +kernel
theorem dX2_balanced_15 : decode cX2_balanced 15 = .ok (.iconst 0, 1) := by decide +kernel
theorem dX2_balanced_16 : decode cX2_balanced 16 = .ok (.iastore, 1) := by decide +kernel
theorem dX2_balanced_17 : decode cX2_balanced 17 = .ok (.iinc 3 1, 3) := by decide +kernel
theorem dX2_balanced_20 : decode cX2_balanced 20 = .ok (.goto (-18), 3) := by decide +kernel
theorem dX2_balanced_23 : decode cX2_balanced 23 = .ok (.iconst 0, 1) := by decide +kernel
theorem dX2_balanced_24 : decode cX2_balanced 24 = .ok (.istore_n 3, 1) := by decide +kernel
theorem dX2_balanced_25 : decode cX2_balanced 25 = .ok (.iload_n 3, 1) := by decide +kernel
theorem dX2_balanced_26 : decode cX2_balanced 26 = .ok (.aload_n 0, 1) := by decide +kernel
theorem dX2_balanced_27 : decode cX2_balanced 27 = .ok (.getfield 7, 3) := by decide +kernel
theorem dX2_balanced_30 : decode cX2_balanced 30 = .ok (.if_icmp .ge 54, 3) := by decide +kernel
theorem dX2_balanced_33 : decode cX2_balanced 33 = .ok (.iconst 1, 1) := by decide +kernel
theorem dX2_balanced_34 : decode cX2_balanced 34 = .ok (.aload_n 0, 1) := by decide +kernel
theorem dX2_balanced_35 : decode cX2_balanced 35 = .ok (.iload_n 1, 1) := by decide +kernel
theorem dX2_balanced_36 : decode cX2_balanced 36 = .ok (.iload_n 2, 1) := by decide +kernel
theorem dX2_balanced_37 : decode cX2_balanced 37 = .ok (.iconst 1, 1) := by decide +kernel
theorem dX2_balanced_38 : decode cX2_balanced 38 = .ok (.isub, 1) := by decide +kernel
theorem dX2_balanced_39 : decode cX2_balanced 39 = .ok (.iload_n 3, 1) := by decide +kernel
theorem dX2_balanced_40 : decode cX2_balanced 40 = .ok (.invokevirtual 81, 3) := by decide +kernel
theorem dX2_balanced_43 : decode cX2_balanced 43 = .ok (.iadd, 1) := by decide +kernel
theorem dX2_balanced_44 : decode cX2_balanced 44 = .ok (.istore 4, 2) := by decide +kernel
theorem dX2_balanced_46 : decode cX2_balanced 46 = .ok (.aload_n 0, 1) := by decide +kernel
theorem dX2_balanced_47 : decode cX2_balanced 47 = .ok (.getfield 23, 3) := by decide +kernel
theorem dX2_balanced_50 : decode cX2_balanced 50 = .ok (.aload_n 0, 1) := by decide +kernel
theorem dX2_balanced_51 : decode cX2_balanced 51 = .ok (.getfield 13, 3) := by decide +kernel
theorem dX2_balanced_54 : decode cX2_balanced 54 = .ok (.iload_n 3, 1) := by decide +kernel
theorem dX2_balanced_55 : decode cX2_balanced 55 = .ok (.iaload, 1) := by decide +kernel
theorem dX2_balanced_56 : decode cX2_balanced 56 = .ok (.dup2, 1) := by decide +kernel
theorem dX2_balanced_57 : decode cX2_balanced 57 = .ok (.iaload, 1) := by decide +kernel
theorem dX2_balanced_58 : decode cX2_balanced 58 = .ok (.iload 4, 2) := by decide +kernel
theorem dX2_balanced_60 : decode cX2_balanced 60 = .ok (.iadd, 1) := by decide +kernel
theorem dX2_balanced_61 : decode cX2_balanced 61 = .ok (.iastore, 1) := by decide +kernel
theorem dX2_balanced_62 : decode cX2_balanced 62 = .ok (.aload_n 0, 1) := by decide +kernel
theorem dX2_balanced_63 : decode cX2_balanced 63 = .ok (.getfield 23, 3) := by decide +kernel
theorem dX2_balanced_66 : decode cX2_balanced 66 = .ok (.aload_n 0, 1) := by decide +kernel
theorem dX2_balanced_67 : decode cX2_balanced 67 = .ok (.getfield 17, 3) := by decide +kernel
theorem dX2_balanced_70 : decode cX2_balanced 70 = .ok (.iload_n 3, 1) := by decide +kernel
theorem dX2_balanced_71 : decode cX2_balanced 71 = .ok (.iaload, 1) := by decide +kernel
theorem dX2_balanced_72 : decode cX2_balanced 72 = .ok (.dup2, 1) := by decide +kernel
theorem dX2_balanced_73 : decode cX2_balanced 73 = .ok (.iaload, 1) := by decide +kernel
theorem dX2_balanced_74 : decode cX2_balanced 74 = .ok (.iload 4, 2) := by decide +kernel
theorem dX2_balanced_76 : decode cX2_balanced 76 = .ok (.isub, 1) := by decide +kernel
theorem dX2_balanced_77 : decode cX2_balanced 77 = .ok (.iastore, 1) := by decide +kernel
theorem dX2_balanced_78 : decode cX2_balanced 78 = .ok (.iinc 3 1, 3) := by decide +kernel
theorem dX2_balanced_81 : decode cX2_balanced 81 = .ok (.goto (-56), 3) := by decide +kernel
theorem dX2_balanced_84 : decode cX2_balanced 84 = .ok (.iconst 0, 1) := by decide +kernel
theorem dX2_balanced_85 : decode cX2_balanced 85 = .ok (.istore_n 3, 1) := by decide +kernel
theorem dX2_balanced_86 : decode cX2_balanced 86 = .ok (.iload_n 3, 1) := by decide +kernel
theorem dX2_balanced_87 : decode cX2_balanced 87 = .ok (.aload_n 0, 1) := by decide +kernel
theorem dX2_balanced_88 : decode cX2_balanced 88 = .ok (.getfield 30, 3) := by decide +kernel
theorem dX2_balanced_91 : decode cX2_balanced 91 = .ok (.if_icmp .ge 31, 3) := by decide +kernel
theorem dX2_balanced_94 : decode cX2_balanced 94 = .ok (.aload_n 0, 1) := by decide +kernel
theorem dX2_balanced_95 : decode cX2_balanced 95 = .ok (.getfield 23, 3) := by decide +kernel
theorem dX2_balanced_98 : decode cX2_balanced 98 = .ok (.iload_n 3, 1) := by decide +kernel
theorem dX2_balanced_99 : decode cX2_balanced 99 = .ok (.iaload, 1) := by decide +kernel
theorem dX2_balanced_100 : decode cX2_balanced 100 = .ok (.iload_n 2, 1) := by decide +kernel
theorem dX2_balanced_101 : decode cX2_balanced 101 = .ok (.iconst 1, 1) := by decide +kernel
theorem dX2_balanced_102 : decode cX2_balanced 102 = .ok (.if_icmp .ge 7, 3) := by decide +kernel
theorem dX2_balanced_105 : decode cX2_balanced 105 = .ok (.iconst 1, 1) := by decide +kernel
theorem dX2_balanced_106 : decode cX2_balanced 106 = .ok (.goto 4, 3) := by decide +kernel
theorem dX2_balanced_109 : decode cX2_balanced 109 = .ok (.iload_n 2, 1) := by decide +kernel
theorem dX2_balanced_110 : decode cX2_balanced 110 = .ok (.irem, 1) := by decide +kernel
theorem dX2_balanced_111 : decode cX2_balanced 111 = .ok (.ifCond .eq 5, 3) := by decide +kernel
theorem dX2_balanced_114 : decode cX2_balanced 114 = .ok (.iconst 0, 1) := by decide +kernel
theorem dX2_balanced_115 : decode cX2_balanced 115 = .ok (.ireturn, 1) := by decide +kernel
theorem dX2_balanced_116 : decode cX2_balanced 116 = .ok (.iinc 3 1, 3) := by decide +kernel
theorem dX2_balanced_119 : decode cX2_balanced 119 = .ok (.goto (-33), 3) := by decide +kernel
theorem dX2_balanced_122 : decode cX2_balanced 122 = .ok (.iconst 1, 1) := by decide +kernel
theorem dX2_balanced_123 : decode cX2_balanced 123 = .ok (.ireturn, 1) := by decide +kernel
abbrev cX2_acyclic : ByteArray := prog_3_method_28_code
def yX2_acyclic : MethodName := ⟨RX2, "acyclic", "()I"⟩
theorem dX2_acyclic_0 : decode cX2_acyclic 0 = .ok (.iconst 0, 1) := by decide +kernel
theorem dX2_acyclic_1 : decode cX2_acyclic 1 = .ok (.istore_n 1, 1) := by decide +kernel
theorem dX2_acyclic_2 : decode cX2_acyclic 2 = .ok (.iconst 0, 1) := by decide +kernel
theorem dX2_acyclic_3 : decode cX2_acyclic 3 = .ok (.istore_n 2, 1) := by decide +kernel
theorem dX2_acyclic_4 : decode cX2_acyclic 4 = .ok (.iload_n 2, 1) := by decide +kernel
theorem dX2_acyclic_5 : decode cX2_acyclic 5 = .ok (.aload_n 0, 1) := by decide +kernel
theorem dX2_acyclic_6 : decode cX2_acyclic 6 = .ok (.invokevirtual 55, 3) := by decide +kernel
theorem dX2_acyclic_9 : decode cX2_acyclic 9 = .ok (.if_icmp .gt 20, 3) := by decide +kernel
theorem dX2_acyclic_12 : decode cX2_acyclic 12 = .ok (.aload_n 0, 1) := by decide +kernel
theorem dX2_acyclic_13 : decode cX2_acyclic 13 = .ok (.iload_n 2, 1) := by decide +kernel
theorem dX2_acyclic_14 : decode cX2_acyclic 14 = .ok (.invokevirtual 88, 3) := by decide +kernel
theorem dX2_acyclic_17 : decode cX2_acyclic 17 = .ok (.ifCond .eq 6, 3) := by decide +kernel
theorem dX2_acyclic_20 : decode cX2_acyclic 20 = .ok (.iinc 1 1, 3) := by decide +kernel
theorem dX2_acyclic_23 : decode cX2_acyclic 23 = .ok (.iinc 2 1, 3) := by decide +kernel
theorem dX2_acyclic_26 : decode cX2_acyclic 26 = .ok (.goto (-22), 3) := by decide +kernel
theorem dX2_acyclic_29 : decode cX2_acyclic 29 = .ok (.iload_n 1, 1) := by decide +kernel
theorem dX2_acyclic_30 : decode cX2_acyclic 30 = .ok (.ireturn, 1) := by decide +kernel
abbrev cX2_noCircle : ByteArray := prog_3_method_27_code
def yX2_noCircle : MethodName := ⟨RX2, "noCircle", "(I)Z"⟩
theorem dX2_noCircle_0 : decode cX2_noCircle 0 = .ok (.iconst 0, 1) := by decide +kernel
theorem dX2_noCircle_1 : decode cX2_noCircle 1 = .ok (.istore_n 2, 1) := by decide +kernel
theorem dX2_noCircle_2 : decode cX2_noCircle 2 = .ok (.iload_n 2, 1) := by decide +kernel
theorem dX2_noCircle_3 : decode cX2_noCircle 3 = .ok (.aload_n 0, 1) := by decide +kernel
theorem dX2_noCircle_4 : decode cX2_noCircle 4 = .ok (.getfield 30, 3) := by decide +kernel
theorem dX2_noCircle_7 : decode cX2_noCircle 7 = .ok (.if_icmp .ge 16, 3) := by decide +kernel
theorem dX2_noCircle_10 : decode cX2_noCircle 10 = .ok (.aload_n 0, 1) := by decide +kernel
theorem dX2_noCircle_11 : decode cX2_noCircle 11 = .ok (.getfield 20, 3) := by decide +kernel
theorem dX2_noCircle_14 : decode cX2_noCircle 14 = .ok (.iload_n 2, 1) := by decide +kernel
theorem dX2_noCircle_15 : decode cX2_noCircle 15 = .ok (.iconst 0, 1) := by decide +kernel
theorem dX2_noCircle_16 : decode cX2_noCircle 16 = .ok (.iastore, 1) := by decide +kernel
theorem dX2_noCircle_17 : decode cX2_noCircle 17 = .ok (.iinc 2 1, 3) := by decide +kernel
theorem dX2_noCircle_20 : decode cX2_noCircle 20 = .ok (.goto (-18), 3) := by decide +kernel
theorem dX2_noCircle_23 : decode cX2_noCircle 23 = .ok (.iconst 0, 1) := by decide +kernel
theorem dX2_noCircle_24 : decode cX2_noCircle 24 = .ok (.istore_n 2, 1) := by decide +kernel
theorem dX2_noCircle_25 : decode cX2_noCircle 25 = .ok (.iload_n 2, 1) := by decide +kernel
theorem dX2_noCircle_26 : decode cX2_noCircle 26 = .ok (.aload_n 0, 1) := by decide +kernel
theorem dX2_noCircle_27 : decode cX2_noCircle 27 = .ok (.getfield 30, 3) := by decide +kernel
theorem dX2_noCircle_30 : decode cX2_noCircle 30 = .ok (.if_icmp .gt 110, 3) := by decide +kernel
theorem dX2_noCircle_33 : decode cX2_noCircle 33 = .ok (.iconst 0, 1) := by decide +kernel
theorem dX2_noCircle_34 : decode cX2_noCircle 34 = .ok (.istore_n 3, 1) := by decide +kernel
theorem dX2_noCircle_35 : decode cX2_noCircle 35 = .ok (.iload_n 3, 1) := by decide +kernel
theorem dX2_noCircle_36 : decode cX2_noCircle 36 = .ok (.aload_n 0, 1) := by decide +kernel
theorem dX2_noCircle_37 : decode cX2_noCircle 37 = .ok (.getfield 7, 3) := by decide +kernel
theorem dX2_noCircle_40 : decode cX2_noCircle 40 = .ok (.if_icmp .ge 94, 3) := by decide +kernel
theorem dX2_noCircle_43 : decode cX2_noCircle 43 = .ok (.aload_n 0, 1) := by decide +kernel
theorem dX2_noCircle_44 : decode cX2_noCircle 44 = .ok (.iload_n 1, 1) := by decide +kernel
theorem dX2_noCircle_45 : decode cX2_noCircle 45 = .ok (.iload_n 3, 1) := by decide +kernel
theorem dX2_noCircle_46 : decode cX2_noCircle 46 = .ok (.invokevirtual 44, 3) := by decide +kernel
theorem dX2_noCircle_49 : decode cX2_noCircle 49 = .ok (.ifCond .eq 12, 3) := by decide +kernel
theorem dX2_noCircle_52 : decode cX2_noCircle 52 = .ok (.aload_n 0, 1) := by decide +kernel
theorem dX2_noCircle_53 : decode cX2_noCircle 53 = .ok (.getfield 17, 3) := by decide +kernel
theorem dX2_noCircle_56 : decode cX2_noCircle 56 = .ok (.iload_n 3, 1) := by decide +kernel
theorem dX2_noCircle_57 : decode cX2_noCircle 57 = .ok (.iaload, 1) := by decide +kernel
theorem dX2_noCircle_58 : decode cX2_noCircle 58 = .ok (.goto 9, 3) := by decide +kernel
theorem dX2_noCircle_61 : decode cX2_noCircle 61 = .ok (.aload_n 0, 1) := by decide +kernel
theorem dX2_noCircle_62 : decode cX2_noCircle 62 = .ok (.getfield 13, 3) := by decide +kernel
theorem dX2_noCircle_65 : decode cX2_noCircle 65 = .ok (.iload_n 3, 1) := by decide +kernel
theorem dX2_noCircle_66 : decode cX2_noCircle 66 = .ok (.iaload, 1) := by decide +kernel
theorem dX2_noCircle_67 : decode cX2_noCircle 67 = .ok (.istore 4, 2) := by decide +kernel
theorem dX2_noCircle_69 : decode cX2_noCircle 69 = .ok (.aload_n 0, 1) := by decide +kernel
theorem dX2_noCircle_70 : decode cX2_noCircle 70 = .ok (.iload_n 1, 1) := by decide +kernel
theorem dX2_noCircle_71 : decode cX2_noCircle 71 = .ok (.iload_n 3, 1) := by decide +kernel
theorem dX2_noCircle_72 : decode cX2_noCircle 72 = .ok (.invokevirtual 44, 3) := by decide +kernel
theorem dX2_noCircle_75 : decode cX2_noCircle 75 = .ok (.ifCond .eq 12, 3) := by decide +kernel
theorem dX2_noCircle_78 : decode cX2_noCircle 78 = .ok (.aload_n 0, 1) := by decide +kernel
theorem dX2_noCircle_79 : decode cX2_noCircle 79 = .ok (.getfield 13, 3) := by decide +kernel
theorem dX2_noCircle_82 : decode cX2_noCircle 82 = .ok (.iload_n 3, 1) := by decide +kernel
theorem dX2_noCircle_83 : decode cX2_noCircle 83 = .ok (.iaload, 1) := by decide +kernel
theorem dX2_noCircle_84 : decode cX2_noCircle 84 = .ok (.goto 9, 3) := by decide +kernel
theorem dX2_noCircle_87 : decode cX2_noCircle 87 = .ok (.aload_n 0, 1) := by decide +kernel
theorem dX2_noCircle_88 : decode cX2_noCircle 88 = .ok (.getfield 17, 3) := by decide +kernel
theorem dX2_noCircle_91 : decode cX2_noCircle 91 = .ok (.iload_n 3, 1) := by decide +kernel
theorem dX2_noCircle_92 : decode cX2_noCircle 92 = .ok (.iaload, 1) := by decide +kernel
theorem dX2_noCircle_93 : decode cX2_noCircle 93 = .ok (.istore 5, 2) := by decide +kernel
theorem dX2_noCircle_95 : decode cX2_noCircle 95 = .ok (.aload_n 0, 1) := by decide +kernel
theorem dX2_noCircle_96 : decode cX2_noCircle 96 = .ok (.getfield 20, 3) := by decide +kernel
theorem dX2_noCircle_99 : decode cX2_noCircle 99 = .ok (.iload 4, 2) := by decide +kernel
theorem dX2_noCircle_101 : decode cX2_noCircle 101 = .ok (.iaload, 1) := by decide +kernel
theorem dX2_noCircle_102 : decode cX2_noCircle 102 = .ok (.aload_n 0, 1) := by decide +kernel
theorem dX2_noCircle_103 : decode cX2_noCircle 103 = .ok (.getfield 20, 3) := by decide +kernel
theorem dX2_noCircle_106 : decode cX2_noCircle 106 = .ok (.iload 5, 2) := by decide +kernel
theorem dX2_noCircle_108 : decode cX2_noCircle 108 = .ok (.iaload, 1) := by decide +kernel
theorem dX2_noCircle_109 : decode cX2_noCircle 109 = .ok (.if_icmp .gt 19, 3) := by decide +kernel
theorem dX2_noCircle_112 : decode cX2_noCircle 112 = .ok (.aload_n 0, 1) := by decide +kernel
theorem dX2_noCircle_113 : decode cX2_noCircle 113 = .ok (.getfield 20, 3) := by decide +kernel
theorem dX2_noCircle_116 : decode cX2_noCircle 116 = .ok (.iload 4, 2) := by decide +kernel
theorem dX2_noCircle_118 : decode cX2_noCircle 118 = .ok (.aload_n 0, 1) := by decide +kernel
theorem dX2_noCircle_119 : decode cX2_noCircle 119 = .ok (.getfield 20, 3) := by decide +kernel
theorem dX2_noCircle_122 : decode cX2_noCircle 122 = .ok (.iload 5, 2) := by decide +kernel
theorem dX2_noCircle_124 : decode cX2_noCircle 124 = .ok (.iaload, 1) := by decide +kernel
theorem dX2_noCircle_125 : decode cX2_noCircle 125 = .ok (.iconst 1, 1) := by decide +kernel
theorem dX2_noCircle_126 : decode cX2_noCircle 126 = .ok (.iadd, 1) := by decide +kernel
theorem dX2_noCircle_127 : decode cX2_noCircle 127 = .ok (.iastore, 1) := by decide +kernel
theorem dX2_noCircle_128 : decode cX2_noCircle 128 = .ok (.iinc 3 1, 3) := by decide +kernel
theorem dX2_noCircle_131 : decode cX2_noCircle 131 = .ok (.goto (-96), 3) := by decide +kernel
theorem dX2_noCircle_134 : decode cX2_noCircle 134 = .ok (.iinc 2 1, 3) := by decide +kernel
theorem dX2_noCircle_137 : decode cX2_noCircle 137 = .ok (.goto (-112), 3) := by decide +kernel
theorem dX2_noCircle_140 : decode cX2_noCircle 140 = .ok (.iconst 0, 1) := by decide +kernel
theorem dX2_noCircle_141 : decode cX2_noCircle 141 = .ok (.istore_n 2, 1) := by decide +kernel
theorem dX2_noCircle_142 : decode cX2_noCircle 142 = .ok (.iload_n 2, 1) := by decide +kernel
theorem dX2_noCircle_143 : decode cX2_noCircle 143 = .ok (.aload_n 0, 1) := by decide +kernel
theorem dX2_noCircle_144 : decode cX2_noCircle 144 = .ok (.getfield 30, 3) := by decide +kernel
theorem dX2_noCircle_147 : decode cX2_noCircle 147 = .ok (.if_icmp .ge 24, 3) := by decide +kernel
theorem dX2_noCircle_150 : decode cX2_noCircle 150 = .ok (.aload_n 0, 1) := by decide +kernel
theorem dX2_noCircle_151 : decode cX2_noCircle 151 = .ok (.getfield 20, 3) := by decide +kernel
theorem dX2_noCircle_154 : decode cX2_noCircle 154 = .ok (.iload_n 2, 1) := by decide +kernel
theorem dX2_noCircle_155 : decode cX2_noCircle 155 = .ok (.iaload, 1) := by decide +kernel
theorem dX2_noCircle_156 : decode cX2_noCircle 156 = .ok (.aload_n 0, 1) := by decide +kernel
theorem dX2_noCircle_157 : decode cX2_noCircle 157 = .ok (.getfield 30, 3) := by decide +kernel
theorem dX2_noCircle_160 : decode cX2_noCircle 160 = .ok (.if_icmp .lt 5, 3) := by decide +kernel
theorem dX2_noCircle_163 : decode cX2_noCircle 163 = .ok (.iconst 0, 1) := by decide +kernel
theorem dX2_noCircle_164 : decode cX2_noCircle 164 = .ok (.ireturn, 1) := by decide +kernel
theorem dX2_noCircle_165 : decode cX2_noCircle 165 = .ok (.iinc 2 1, 3) := by decide +kernel
theorem dX2_noCircle_168 : decode cX2_noCircle 168 = .ok (.goto (-26), 3) := by decide +kernel
theorem dX2_noCircle_171 : decode cX2_noCircle 171 = .ok (.iconst 1, 1) := by decide +kernel
theorem dX2_noCircle_172 : decode cX2_noCircle 172 = .ok (.ireturn, 1) := by decide +kernel
end
section
set_option maxRecDepth 100000
theorem q25 : (Jvm.Cond.initialized "GraphPolynomialsModel") ∈ lw_all := lw_g (lw_at lw_m1 2 rfl) rfl
theorem q157 : (Jvm.Cond.instantiable "GraphPolynomialsModel" (7 : Nat)) ∈ lw_all := lw_g (lw_at lw_m1 134 rfl) rfl
theorem q159 : (Jvm.Cond.instanceMethod ({ cls := "GraphPolynomialsModel", name := "<init>", desc := "(I)V" } : Jvm.MethodName)) ∈ lw_all := lw_g (lw_at lw_m1 136 rfl) rfl
theorem q160 : (Jvm.Cond.code ({ cls := "GraphPolynomialsModel", name := "<init>", desc := "(I)V" } : Jvm.MethodName) prog_3_method_1_code (2 : Nat) (Option.none : Option Jvm.ClassFile.FieldType)) ∈ lw_all := lw_g (lw_at lw_m1 137 rfl) rfl
theorem q161 : (Jvm.Cond.methodLink "GraphPolynomialsModel" (1 : Nat) ({ cls := "java/lang/Object", name := "<init>", desc := "()V" } : Jvm.MethodName)) ∈ lw_all := lw_g (lw_at lw_m1 138 rfl) rfl
theorem q162 : (Jvm.Cond.fieldLink "GraphPolynomialsModel" (30 : Nat) "GraphPolynomialsModel" "n" "I") ∈ lw_all := lw_g (lw_at lw_m1 139 rfl) rfl
theorem q163 : (Jvm.Cond.fieldLink "GraphPolynomialsModel" (7 : Nat) "GraphPolynomialsModel" "m" "I") ∈ lw_all := lw_g (lw_at lw_m1 140 rfl) rfl
theorem q164 : (Jvm.Cond.fieldLink "GraphPolynomialsModel" (13 : Nat) "GraphPolynomialsModel" "first" "[I") ∈ lw_all := lw_g (lw_at lw_m1 141 rfl) rfl
theorem q165 : (Jvm.Cond.fieldLink "GraphPolynomialsModel" (17 : Nat) "GraphPolynomialsModel" "second" "[I") ∈ lw_all := lw_g (lw_at lw_m1 142 rfl) rfl
theorem q166 : (Jvm.Cond.fieldLink "GraphPolynomialsModel" (20 : Nat) "GraphPolynomialsModel" "label" "[I") ∈ lw_all := lw_g (lw_at lw_m1 143 rfl) rfl
theorem q167 : (Jvm.Cond.fieldLink "GraphPolynomialsModel" (23 : Nat) "GraphPolynomialsModel" "sums" "[I") ∈ lw_all := lw_g (lw_at lw_m1 144 rfl) rfl
theorem q168 : (Jvm.Cond.fieldLink "GraphPolynomialsModel" (26 : Nat) "GraphPolynomialsModel" "poly" "[J") ∈ lw_all := lw_g (lw_at lw_m1 145 rfl) rfl
theorem q169 : (Jvm.Cond.lays "GraphPolynomialsModel" "GraphPolynomialsModel" "n" "I") ∈ lw_all := lw_g (lw_at lw_m1 146 rfl) rfl
theorem q170 : (Jvm.Cond.soleField "GraphPolynomialsModel" "n") ∈ lw_all := lw_g (lw_at lw_m1 147 rfl) rfl
theorem q171 : (Jvm.Cond.lays "GraphPolynomialsModel" "GraphPolynomialsModel" "m" "I") ∈ lw_all := lw_g (lw_at lw_m1 148 rfl) rfl
theorem q172 : (Jvm.Cond.soleField "GraphPolynomialsModel" "m") ∈ lw_all := lw_g (lw_at lw_m1 149 rfl) rfl
theorem q173 : (Jvm.Cond.lays "GraphPolynomialsModel" "GraphPolynomialsModel" "first" "[I") ∈ lw_all := lw_g (lw_at lw_m1 150 rfl) rfl
theorem q174 : (Jvm.Cond.soleField "GraphPolynomialsModel" "first") ∈ lw_all := lw_g (lw_at lw_m1 151 rfl) rfl
theorem q175 : (Jvm.Cond.lays "GraphPolynomialsModel" "GraphPolynomialsModel" "second" "[I") ∈ lw_all := lw_g (lw_at lw_m1 152 rfl) rfl
theorem q176 : (Jvm.Cond.soleField "GraphPolynomialsModel" "second") ∈ lw_all := lw_g (lw_at lw_m1 153 rfl) rfl
theorem q177 : (Jvm.Cond.lays "GraphPolynomialsModel" "GraphPolynomialsModel" "label" "[I") ∈ lw_all := lw_g (lw_at lw_m1 154 rfl) rfl
theorem q178 : (Jvm.Cond.soleField "GraphPolynomialsModel" "label") ∈ lw_all := lw_g (lw_at lw_m1 155 rfl) rfl
theorem q179 : (Jvm.Cond.lays "GraphPolynomialsModel" "GraphPolynomialsModel" "sums" "[I") ∈ lw_all := lw_g (lw_at lw_m1 156 rfl) rfl
theorem q180 : (Jvm.Cond.soleField "GraphPolynomialsModel" "sums") ∈ lw_all := lw_g (lw_at lw_m1 157 rfl) rfl
theorem q181 : (Jvm.Cond.lays "GraphPolynomialsModel" "GraphPolynomialsModel" "poly" "[J") ∈ lw_all := lw_g (lw_at lw_m1 158 rfl) rfl
theorem q182 : (Jvm.Cond.soleField "GraphPolynomialsModel" "poly") ∈ lw_all := lw_g (lw_at lw_m1 159 rfl) rfl
theorem q183 : (Jvm.Cond.superclass "GraphPolynomialsModel" "java/lang/Object") ∈ lw_all := lw_g (lw_at lw_m1 160 rfl) rfl
theorem q186 : (Jvm.Cond.instanceMethod ({ cls := "GraphPolynomialsModel", name := "add", desc := "(II)I" } : Jvm.MethodName)) ∈ lw_all := lw_g (lw_at lw_m1 163 rfl) rfl
theorem q187 : (Jvm.Cond.selects "GraphPolynomialsModel" ({ cls := "GraphPolynomialsModel", name := "add", desc := "(II)I" } : Jvm.MethodName) ({ cls := "GraphPolynomialsModel", name := "add", desc := "(II)I" } : Jvm.MethodName)) ∈ lw_all := lw_g (lw_at lw_m1 164 rfl) rfl
theorem q188 : (Jvm.Cond.code ({ cls := "GraphPolynomialsModel", name := "add", desc := "(II)I" } : Jvm.MethodName) prog_3_method_4_code (3 : Nat) (Option.some Jvm.ClassFile.FieldType.int)) ∈ lw_all := lw_g (lw_at lw_m1 165 rfl) rfl
theorem q189 : (Jvm.Cond.methodLink "GraphPolynomialsModel" (33 : Nat) ({ cls := "GraphPolynomialsModel", name := "isPoint", desc := "(I)Z" } : Jvm.MethodName)) ∈ lw_all := lw_g (lw_at lw_m1 166 rfl) rfl
theorem q190 : (Jvm.Cond.privateMethod ({ cls := "GraphPolynomialsModel", name := "isPoint", desc := "(I)Z" } : Jvm.MethodName)) ∈ lw_tbl := lw_at lw_m1 167 rfl
theorem q191 : (Jvm.Cond.instanceMethod ({ cls := "GraphPolynomialsModel", name := "isPoint", desc := "(I)Z" } : Jvm.MethodName)) ∈ lw_all := lw_g (lw_at lw_m1 168 rfl) rfl
theorem q192 : (Jvm.Cond.code ({ cls := "GraphPolynomialsModel", name := "isPoint", desc := "(I)Z" } : Jvm.MethodName) prog_3_method_2_code (2 : Nat) (Option.some Jvm.ClassFile.FieldType.boolean)) ∈ lw_all := lw_g (lw_at lw_m1 169 rfl) rfl
theorem q194 : (Jvm.Cond.instanceMethod ({ cls := "GraphPolynomialsModel", name := "drop", desc := "(I)I" } : Jvm.MethodName)) ∈ lw_all := lw_g (lw_at lw_m1 171 rfl) rfl
theorem q195 : (Jvm.Cond.selects "GraphPolynomialsModel" ({ cls := "GraphPolynomialsModel", name := "drop", desc := "(I)I" } : Jvm.MethodName) ({ cls := "GraphPolynomialsModel", name := "drop", desc := "(I)I" } : Jvm.MethodName)) ∈ lw_all := lw_g (lw_at lw_m1 172 rfl) rfl
theorem q196 : (Jvm.Cond.code ({ cls := "GraphPolynomialsModel", name := "drop", desc := "(I)I" } : Jvm.MethodName) prog_3_method_5_code (3 : Nat) (Option.some Jvm.ClassFile.FieldType.int)) ∈ lw_all := lw_g (lw_at lw_m1 173 rfl) rfl
theorem q197 : (Jvm.Cond.methodLink "GraphPolynomialsModel" (37 : Nat) ({ cls := "GraphPolynomialsModel", name := "isEdge", desc := "(I)Z" } : Jvm.MethodName)) ∈ lw_all := lw_g (lw_at lw_m1 174 rfl) rfl
theorem q198 : (Jvm.Cond.privateMethod ({ cls := "GraphPolynomialsModel", name := "isEdge", desc := "(I)Z" } : Jvm.MethodName)) ∈ lw_tbl := lw_at lw_m1 175 rfl
theorem q199 : (Jvm.Cond.instanceMethod ({ cls := "GraphPolynomialsModel", name := "isEdge", desc := "(I)Z" } : Jvm.MethodName)) ∈ lw_all := lw_g (lw_at lw_m1 176 rfl) rfl
theorem q200 : (Jvm.Cond.code ({ cls := "GraphPolynomialsModel", name := "isEdge", desc := "(I)Z" } : Jvm.MethodName) prog_3_method_3_code (2 : Nat) (Option.some Jvm.ClassFile.FieldType.boolean)) ∈ lw_all := lw_g (lw_at lw_m1 177 rfl) rfl
theorem q202 : (Jvm.Cond.instanceMethod ({ cls := "GraphPolynomialsModel", name := "merge", desc := "(I)I" } : Jvm.MethodName)) ∈ lw_all := lw_g (lw_at lw_m1 179 rfl) rfl
theorem q203 : (Jvm.Cond.selects "GraphPolynomialsModel" ({ cls := "GraphPolynomialsModel", name := "merge", desc := "(I)I" } : Jvm.MethodName) ({ cls := "GraphPolynomialsModel", name := "merge", desc := "(I)I" } : Jvm.MethodName)) ∈ lw_all := lw_g (lw_at lw_m1 180 rfl) rfl
theorem q204 : (Jvm.Cond.code ({ cls := "GraphPolynomialsModel", name := "merge", desc := "(I)I" } : Jvm.MethodName) prog_3_method_6_code (5 : Nat) (Option.some Jvm.ClassFile.FieldType.int)) ∈ lw_all := lw_g (lw_at lw_m1 181 rfl) rfl
theorem q205 : (Jvm.Cond.methodLink "GraphPolynomialsModel" (40 : Nat) ({ cls := "GraphPolynomialsModel", name := "drop", desc := "(I)I" } : Jvm.MethodName)) ∈ lw_all := lw_g (lw_at lw_m1 182 rfl) rfl
theorem q207 : (Jvm.Cond.instanceMethod ({ cls := "GraphPolynomialsModel", name := "edges", desc := "()I" } : Jvm.MethodName)) ∈ lw_all := lw_g (lw_at lw_m1 184 rfl) rfl
theorem q208 : (Jvm.Cond.selects "GraphPolynomialsModel" ({ cls := "GraphPolynomialsModel", name := "edges", desc := "()I" } : Jvm.MethodName) ({ cls := "GraphPolynomialsModel", name := "edges", desc := "()I" } : Jvm.MethodName)) ∈ lw_all := lw_g (lw_at lw_m1 185 rfl) rfl
theorem q209 : (Jvm.Cond.code ({ cls := "GraphPolynomialsModel", name := "edges", desc := "()I" } : Jvm.MethodName) prog_3_method_7_code (1 : Nat) (Option.some Jvm.ClassFile.FieldType.int)) ∈ lw_all := lw_g (lw_at lw_m1 186 rfl) rfl
theorem q211 : (Jvm.Cond.instanceMethod ({ cls := "GraphPolynomialsModel", name := "parts", desc := "()I" } : Jvm.MethodName)) ∈ lw_all := lw_g (lw_at lw_m1 188 rfl) rfl
theorem q212 : (Jvm.Cond.selects "GraphPolynomialsModel" ({ cls := "GraphPolynomialsModel", name := "parts", desc := "()I" } : Jvm.MethodName) ({ cls := "GraphPolynomialsModel", name := "parts", desc := "()I" } : Jvm.MethodName)) ∈ lw_all := lw_g (lw_at lw_m1 189 rfl) rfl
theorem q213 : (Jvm.Cond.code ({ cls := "GraphPolynomialsModel", name := "parts", desc := "()I" } : Jvm.MethodName) prog_3_method_14_code (2 : Nat) (Option.some Jvm.ClassFile.FieldType.int)) ∈ lw_all := lw_g (lw_at lw_m1 190 rfl) rfl
theorem q214 : (Jvm.Cond.methodLink "GraphPolynomialsModel" (55 : Nat) ({ cls := "GraphPolynomialsModel", name := "all", desc := "()I" } : Jvm.MethodName)) ∈ lw_all := lw_g (lw_at lw_m1 191 rfl) rfl
theorem q215 : (Jvm.Cond.privateMethod ({ cls := "GraphPolynomialsModel", name := "all", desc := "()I" } : Jvm.MethodName)) ∈ lw_tbl := lw_at lw_m1 192 rfl
theorem q216 : (Jvm.Cond.instanceMethod ({ cls := "GraphPolynomialsModel", name := "all", desc := "()I" } : Jvm.MethodName)) ∈ lw_all := lw_g (lw_at lw_m1 193 rfl) rfl
theorem q217 : (Jvm.Cond.code ({ cls := "GraphPolynomialsModel", name := "all", desc := "()I" } : Jvm.MethodName) prog_3_method_13_code (1 : Nat) (Option.some Jvm.ClassFile.FieldType.int)) ∈ lw_all := lw_g (lw_at lw_m1 194 rfl) rfl
theorem q218 : (Jvm.Cond.methodLink "GraphPolynomialsModel" (52 : Nat) ({ cls := "GraphPolynomialsModel", name := "partsOf", desc := "(I)I" } : Jvm.MethodName)) ∈ lw_all := lw_g (lw_at lw_m1 195 rfl) rfl
theorem q219 : (Jvm.Cond.privateMethod ({ cls := "GraphPolynomialsModel", name := "partsOf", desc := "(I)I" } : Jvm.MethodName)) ∈ lw_tbl := lw_at lw_m1 196 rfl
theorem q220 : (Jvm.Cond.instanceMethod ({ cls := "GraphPolynomialsModel", name := "partsOf", desc := "(I)I" } : Jvm.MethodName)) ∈ lw_all := lw_g (lw_at lw_m1 197 rfl) rfl
theorem q221 : (Jvm.Cond.code ({ cls := "GraphPolynomialsModel", name := "partsOf", desc := "(I)I" } : Jvm.MethodName) prog_3_method_11_code (4 : Nat) (Option.some Jvm.ClassFile.FieldType.int)) ∈ lw_all := lw_g (lw_at lw_m1 198 rfl) rfl
theorem q222 : (Jvm.Cond.methodLink "GraphPolynomialsModel" (48 : Nat) ({ cls := "GraphPolynomialsModel", name := "spread", desc := "(I)V" } : Jvm.MethodName)) ∈ lw_all := lw_g (lw_at lw_m1 199 rfl) rfl
theorem q223 : (Jvm.Cond.privateMethod ({ cls := "GraphPolynomialsModel", name := "spread", desc := "(I)V" } : Jvm.MethodName)) ∈ lw_tbl := lw_at lw_m1 200 rfl
theorem q224 : (Jvm.Cond.instanceMethod ({ cls := "GraphPolynomialsModel", name := "spread", desc := "(I)V" } : Jvm.MethodName)) ∈ lw_all := lw_g (lw_at lw_m1 201 rfl) rfl
theorem q225 : (Jvm.Cond.code ({ cls := "GraphPolynomialsModel", name := "spread", desc := "(I)V" } : Jvm.MethodName) prog_3_method_10_code (4 : Nat) (Option.none : Option Jvm.ClassFile.FieldType)) ∈ lw_all := lw_g (lw_at lw_m1 202 rfl) rfl
theorem q226 : (Jvm.Cond.methodLink "GraphPolynomialsModel" (44 : Nat) ({ cls := "GraphPolynomialsModel", name := "in", desc := "(II)Z" } : Jvm.MethodName)) ∈ lw_all := lw_g (lw_at lw_m1 203 rfl) rfl
theorem q227 : (Jvm.Cond.privateMethod ({ cls := "GraphPolynomialsModel", name := "in", desc := "(II)Z" } : Jvm.MethodName)) ∈ lw_tbl := lw_at lw_m1 204 rfl
theorem q228 : (Jvm.Cond.instanceMethod ({ cls := "GraphPolynomialsModel", name := "in", desc := "(II)Z" } : Jvm.MethodName)) ∈ lw_all := lw_g (lw_at lw_m1 205 rfl) rfl
theorem q229 : (Jvm.Cond.code ({ cls := "GraphPolynomialsModel", name := "in", desc := "(II)Z" } : Jvm.MethodName) prog_3_method_8_code (3 : Nat) (Option.some Jvm.ClassFile.FieldType.boolean)) ∈ lw_all := lw_g (lw_at lw_m1 206 rfl) rfl
theorem q231 : (Jvm.Cond.instanceMethod ({ cls := "GraphPolynomialsModel", name := "coefficient", desc := "(II)I" } : Jvm.MethodName)) ∈ lw_all := lw_g (lw_at lw_m1 208 rfl) rfl
theorem q232 : (Jvm.Cond.selects "GraphPolynomialsModel" ({ cls := "GraphPolynomialsModel", name := "coefficient", desc := "(II)I" } : Jvm.MethodName) ({ cls := "GraphPolynomialsModel", name := "coefficient", desc := "(II)I" } : Jvm.MethodName)) ∈ lw_all := lw_g (lw_at lw_m1 209 rfl) rfl
theorem q233 : (Jvm.Cond.code ({ cls := "GraphPolynomialsModel", name := "coefficient", desc := "(II)I" } : Jvm.MethodName) prog_3_method_17_code (8 : Nat) (Option.some Jvm.ClassFile.FieldType.int)) ∈ lw_all := lw_g (lw_at lw_m1 210 rfl) rfl
theorem q234 : (Jvm.Cond.methodLink "GraphPolynomialsModel" (63 : Nat) ({ cls := "GraphPolynomialsModel", name := "rank", desc := "(I)I" } : Jvm.MethodName)) ∈ lw_all := lw_g (lw_at lw_m1 211 rfl) rfl
theorem q235 : (Jvm.Cond.privateMethod ({ cls := "GraphPolynomialsModel", name := "rank", desc := "(I)I" } : Jvm.MethodName)) ∈ lw_tbl := lw_at lw_m1 212 rfl
theorem q236 : (Jvm.Cond.instanceMethod ({ cls := "GraphPolynomialsModel", name := "rank", desc := "(I)I" } : Jvm.MethodName)) ∈ lw_all := lw_g (lw_at lw_m1 213 rfl) rfl
theorem q237 : (Jvm.Cond.code ({ cls := "GraphPolynomialsModel", name := "rank", desc := "(I)I" } : Jvm.MethodName) prog_3_method_12_code (2 : Nat) (Option.some Jvm.ClassFile.FieldType.int)) ∈ lw_all := lw_g (lw_at lw_m1 214 rfl) rfl
theorem q238 : (Jvm.Cond.methodLink "GraphPolynomialsModel" (66 : Nat) ({ cls := "GraphPolynomialsModel", name := "sizeOf", desc := "(I)I" } : Jvm.MethodName)) ∈ lw_all := lw_g (lw_at lw_m1 215 rfl) rfl
theorem q239 : (Jvm.Cond.privateMethod ({ cls := "GraphPolynomialsModel", name := "sizeOf", desc := "(I)I" } : Jvm.MethodName)) ∈ lw_tbl := lw_at lw_m1 216 rfl
theorem q240 : (Jvm.Cond.instanceMethod ({ cls := "GraphPolynomialsModel", name := "sizeOf", desc := "(I)I" } : Jvm.MethodName)) ∈ lw_all := lw_g (lw_at lw_m1 217 rfl) rfl
theorem q241 : (Jvm.Cond.code ({ cls := "GraphPolynomialsModel", name := "sizeOf", desc := "(I)I" } : Jvm.MethodName) prog_3_method_9_code (4 : Nat) (Option.some Jvm.ClassFile.FieldType.int)) ∈ lw_all := lw_g (lw_at lw_m1 218 rfl) rfl
theorem q242 : (Jvm.Cond.methodLink "GraphPolynomialsModel" (69 : Nat) ({ cls := "GraphPolynomialsModel", name := "addTerm", desc := "(II)V" } : Jvm.MethodName)) ∈ lw_all := lw_g (lw_at lw_m1 219 rfl) rfl
theorem q243 : (Jvm.Cond.privateMethod ({ cls := "GraphPolynomialsModel", name := "addTerm", desc := "(II)V" } : Jvm.MethodName)) ∈ lw_tbl := lw_at lw_m1 220 rfl
theorem q244 : (Jvm.Cond.instanceMethod ({ cls := "GraphPolynomialsModel", name := "addTerm", desc := "(II)V" } : Jvm.MethodName)) ∈ lw_all := lw_g (lw_at lw_m1 221 rfl) rfl
theorem q245 : (Jvm.Cond.code ({ cls := "GraphPolynomialsModel", name := "addTerm", desc := "(II)V" } : Jvm.MethodName) prog_3_method_16_code (7 : Nat) (Option.none : Option Jvm.ClassFile.FieldType)) ∈ lw_all := lw_g (lw_at lw_m1 222 rfl) rfl
theorem q246 : (Jvm.Cond.methodLink "GraphPolynomialsModel" (59 : Nat) ({ cls := "GraphPolynomialsModel", name := "choose", desc := "(II)J" } : Jvm.MethodName)) ∈ lw_all := lw_g (lw_at lw_m1 223 rfl) rfl
theorem q247 : (Jvm.Cond.privateMethod ({ cls := "GraphPolynomialsModel", name := "choose", desc := "(II)J" } : Jvm.MethodName)) ∈ lw_tbl := lw_at lw_m1 224 rfl
theorem q248 : (Jvm.Cond.instanceMethod ({ cls := "GraphPolynomialsModel", name := "choose", desc := "(II)J" } : Jvm.MethodName)) ∈ lw_all := lw_g (lw_at lw_m1 225 rfl) rfl
theorem q249 : (Jvm.Cond.code ({ cls := "GraphPolynomialsModel", name := "choose", desc := "(II)J" } : Jvm.MethodName) prog_3_method_15_code (6 : Nat) (Option.some Jvm.ClassFile.FieldType.long)) ∈ lw_all := lw_g (lw_at lw_m1 226 rfl) rfl
theorem q251 : (Jvm.Cond.instanceMethod ({ cls := "GraphPolynomialsModel", name := "trees", desc := "()I" } : Jvm.MethodName)) ∈ lw_all := lw_g (lw_at lw_m1 228 rfl) rfl
theorem q252 : (Jvm.Cond.selects "GraphPolynomialsModel" ({ cls := "GraphPolynomialsModel", name := "trees", desc := "()I" } : Jvm.MethodName) ({ cls := "GraphPolynomialsModel", name := "trees", desc := "()I" } : Jvm.MethodName)) ∈ lw_all := lw_g (lw_at lw_m1 229 rfl) rfl
theorem q253 : (Jvm.Cond.code ({ cls := "GraphPolynomialsModel", name := "trees", desc := "()I" } : Jvm.MethodName) prog_3_method_19_code (1 : Nat) (Option.some Jvm.ClassFile.FieldType.int)) ∈ lw_all := lw_g (lw_at lw_m1 230 rfl) rfl
theorem q254 : (Jvm.Cond.methodLink "GraphPolynomialsModel" (73 : Nat) ({ cls := "GraphPolynomialsModel", name := "count", desc := "(ZZ)I" } : Jvm.MethodName)) ∈ lw_all := lw_g (lw_at lw_m1 231 rfl) rfl
theorem q255 : (Jvm.Cond.privateMethod ({ cls := "GraphPolynomialsModel", name := "count", desc := "(ZZ)I" } : Jvm.MethodName)) ∈ lw_tbl := lw_at lw_m1 232 rfl
theorem q256 : (Jvm.Cond.instanceMethod ({ cls := "GraphPolynomialsModel", name := "count", desc := "(ZZ)I" } : Jvm.MethodName)) ∈ lw_all := lw_g (lw_at lw_m1 233 rfl) rfl
theorem q257 : (Jvm.Cond.code ({ cls := "GraphPolynomialsModel", name := "count", desc := "(ZZ)I" } : Jvm.MethodName) prog_3_method_18_code (8 : Nat) (Option.some Jvm.ClassFile.FieldType.int)) ∈ lw_all := lw_g (lw_at lw_m1 234 rfl) rfl
theorem q259 : (Jvm.Cond.instanceMethod ({ cls := "GraphPolynomialsModel", name := "forests", desc := "()I" } : Jvm.MethodName)) ∈ lw_all := lw_g (lw_at lw_m1 236 rfl) rfl
theorem q260 : (Jvm.Cond.selects "GraphPolynomialsModel" ({ cls := "GraphPolynomialsModel", name := "forests", desc := "()I" } : Jvm.MethodName) ({ cls := "GraphPolynomialsModel", name := "forests", desc := "()I" } : Jvm.MethodName)) ∈ lw_all := lw_g (lw_at lw_m1 237 rfl) rfl
theorem q261 : (Jvm.Cond.code ({ cls := "GraphPolynomialsModel", name := "forests", desc := "()I" } : Jvm.MethodName) prog_3_method_20_code (1 : Nat) (Option.some Jvm.ClassFile.FieldType.int)) ∈ lw_all := lw_g (lw_at lw_m1 238 rfl) rfl
theorem q263 : (Jvm.Cond.instanceMethod ({ cls := "GraphPolynomialsModel", name := "spanning", desc := "()I" } : Jvm.MethodName)) ∈ lw_all := lw_g (lw_at lw_m2 0 rfl) rfl
theorem q264 : (Jvm.Cond.selects "GraphPolynomialsModel" ({ cls := "GraphPolynomialsModel", name := "spanning", desc := "()I" } : Jvm.MethodName) ({ cls := "GraphPolynomialsModel", name := "spanning", desc := "()I" } : Jvm.MethodName)) ∈ lw_all := lw_g (lw_at lw_m2 1 rfl) rfl
theorem q265 : (Jvm.Cond.code ({ cls := "GraphPolynomialsModel", name := "spanning", desc := "()I" } : Jvm.MethodName) prog_3_method_21_code (1 : Nat) (Option.some Jvm.ClassFile.FieldType.int)) ∈ lw_all := lw_g (lw_at lw_m2 2 rfl) rfl
theorem q267 : (Jvm.Cond.instanceMethod ({ cls := "GraphPolynomialsModel", name := "colourings", desc := "(I)I" } : Jvm.MethodName)) ∈ lw_all := lw_g (lw_at lw_m2 4 rfl) rfl
theorem q268 : (Jvm.Cond.selects "GraphPolynomialsModel" ({ cls := "GraphPolynomialsModel", name := "colourings", desc := "(I)I" } : Jvm.MethodName) ({ cls := "GraphPolynomialsModel", name := "colourings", desc := "(I)I" } : Jvm.MethodName)) ∈ lw_all := lw_g (lw_at lw_m2 5 rfl) rfl
theorem q269 : (Jvm.Cond.code ({ cls := "GraphPolynomialsModel", name := "colourings", desc := "(I)I" } : Jvm.MethodName) prog_3_method_24_code (7 : Nat) (Option.some Jvm.ClassFile.FieldType.int)) ∈ lw_all := lw_g (lw_at lw_m2 6 rfl) rfl
theorem q270 : (Jvm.Cond.methodLink "GraphPolynomialsModel" (77 : Nat) ({ cls := "GraphPolynomialsModel", name := "power", desc := "(II)I" } : Jvm.MethodName)) ∈ lw_all := lw_g (lw_at lw_m2 7 rfl) rfl
theorem q271 : (Jvm.Cond.privateMethod ({ cls := "GraphPolynomialsModel", name := "power", desc := "(II)I" } : Jvm.MethodName)) ∈ lw_tbl := lw_at lw_m2 8 rfl
theorem q272 : (Jvm.Cond.instanceMethod ({ cls := "GraphPolynomialsModel", name := "power", desc := "(II)I" } : Jvm.MethodName)) ∈ lw_all := lw_g (lw_at lw_m2 9 rfl) rfl
theorem q273 : (Jvm.Cond.code ({ cls := "GraphPolynomialsModel", name := "power", desc := "(II)I" } : Jvm.MethodName) prog_3_method_23_code (5 : Nat) (Option.some Jvm.ClassFile.FieldType.int)) ∈ lw_all := lw_g (lw_at lw_m2 10 rfl) rfl
theorem q274 : (Jvm.Cond.methodLink "GraphPolynomialsModel" (81 : Nat) ({ cls := "GraphPolynomialsModel", name := "digit", desc := "(III)I" } : Jvm.MethodName)) ∈ lw_all := lw_g (lw_at lw_m2 11 rfl) rfl
theorem q275 : (Jvm.Cond.privateMethod ({ cls := "GraphPolynomialsModel", name := "digit", desc := "(III)I" } : Jvm.MethodName)) ∈ lw_tbl := lw_at lw_m2 12 rfl
theorem q276 : (Jvm.Cond.instanceMethod ({ cls := "GraphPolynomialsModel", name := "digit", desc := "(III)I" } : Jvm.MethodName)) ∈ lw_all := lw_g (lw_at lw_m2 13 rfl) rfl
theorem q277 : (Jvm.Cond.code ({ cls := "GraphPolynomialsModel", name := "digit", desc := "(III)I" } : Jvm.MethodName) prog_3_method_22_code (6 : Nat) (Option.some Jvm.ClassFile.FieldType.int)) ∈ lw_all := lw_g (lw_at lw_m2 14 rfl) rfl
theorem q279 : (Jvm.Cond.instanceMethod ({ cls := "GraphPolynomialsModel", name := "flows", desc := "(I)I" } : Jvm.MethodName)) ∈ lw_all := lw_g (lw_at lw_m2 16 rfl) rfl
theorem q280 : (Jvm.Cond.selects "GraphPolynomialsModel" ({ cls := "GraphPolynomialsModel", name := "flows", desc := "(I)I" } : Jvm.MethodName) ({ cls := "GraphPolynomialsModel", name := "flows", desc := "(I)I" } : Jvm.MethodName)) ∈ lw_all := lw_g (lw_at lw_m2 17 rfl) rfl
theorem q281 : (Jvm.Cond.code ({ cls := "GraphPolynomialsModel", name := "flows", desc := "(I)I" } : Jvm.MethodName) prog_3_method_26_code (5 : Nat) (Option.some Jvm.ClassFile.FieldType.int)) ∈ lw_all := lw_g (lw_at lw_m2 18 rfl) rfl
theorem q282 : (Jvm.Cond.methodLink "GraphPolynomialsModel" (85 : Nat) ({ cls := "GraphPolynomialsModel", name := "balanced", desc := "(II)Z" } : Jvm.MethodName)) ∈ lw_all := lw_g (lw_at lw_m2 19 rfl) rfl
theorem q283 : (Jvm.Cond.privateMethod ({ cls := "GraphPolynomialsModel", name := "balanced", desc := "(II)Z" } : Jvm.MethodName)) ∈ lw_tbl := lw_at lw_m2 20 rfl
theorem q284 : (Jvm.Cond.instanceMethod ({ cls := "GraphPolynomialsModel", name := "balanced", desc := "(II)Z" } : Jvm.MethodName)) ∈ lw_all := lw_g (lw_at lw_m2 21 rfl) rfl
theorem q285 : (Jvm.Cond.code ({ cls := "GraphPolynomialsModel", name := "balanced", desc := "(II)Z" } : Jvm.MethodName) prog_3_method_25_code (5 : Nat) (Option.some Jvm.ClassFile.FieldType.boolean)) ∈ lw_all := lw_g (lw_at lw_m2 22 rfl) rfl
theorem q287 : (Jvm.Cond.instanceMethod ({ cls := "GraphPolynomialsModel", name := "acyclic", desc := "()I" } : Jvm.MethodName)) ∈ lw_all := lw_g (lw_at lw_m2 24 rfl) rfl
theorem q288 : (Jvm.Cond.selects "GraphPolynomialsModel" ({ cls := "GraphPolynomialsModel", name := "acyclic", desc := "()I" } : Jvm.MethodName) ({ cls := "GraphPolynomialsModel", name := "acyclic", desc := "()I" } : Jvm.MethodName)) ∈ lw_all := lw_g (lw_at lw_m2 25 rfl) rfl
theorem q289 : (Jvm.Cond.code ({ cls := "GraphPolynomialsModel", name := "acyclic", desc := "()I" } : Jvm.MethodName) prog_3_method_28_code (3 : Nat) (Option.some Jvm.ClassFile.FieldType.int)) ∈ lw_all := lw_g (lw_at lw_m2 26 rfl) rfl
theorem q290 : (Jvm.Cond.methodLink "GraphPolynomialsModel" (88 : Nat) ({ cls := "GraphPolynomialsModel", name := "noCircle", desc := "(I)Z" } : Jvm.MethodName)) ∈ lw_all := lw_g (lw_at lw_m2 27 rfl) rfl
theorem q291 : (Jvm.Cond.privateMethod ({ cls := "GraphPolynomialsModel", name := "noCircle", desc := "(I)Z" } : Jvm.MethodName)) ∈ lw_tbl := lw_at lw_m2 28 rfl
theorem q292 : (Jvm.Cond.instanceMethod ({ cls := "GraphPolynomialsModel", name := "noCircle", desc := "(I)Z" } : Jvm.MethodName)) ∈ lw_all := lw_g (lw_at lw_m2 29 rfl) rfl
theorem q293 : (Jvm.Cond.code ({ cls := "GraphPolynomialsModel", name := "noCircle", desc := "(I)Z" } : Jvm.MethodName) prog_3_method_27_code (6 : Nat) (Option.some Jvm.ClassFile.FieldType.boolean)) ∈ lw_all := lw_g (lw_at lw_m2 30 rfl) rfl
theorem in_X2 : ∀ w ∈ wsX20, w ∈ lw_all := lw_in wsX20 [169, 171, 173, 175, 177, 179, 181] (by decide +kernel) (by decide +kernel)
end
section
/-! THE WALK'S OWN JUDGEMENT over the kit's: JJ X ws lv pc st: any heap that holds the cells ws (apart, framed) and any locals that hold lv: the machine comes to its end -/
set_option maxRecDepth 100000
abbrev vwCl : List vw_C := [(RX1, TX1, 11), (RX2, TX2, 7)]
abbrev gx_C : Type := Program × Launch × Env × Room × State × MethodId × Array Value × List Frame × Method × Code × (State → Prop) × va_G × (Nat → Prop) × Nat × Nat × Nat
/-- the locals: a list of what is known, none: nothing -/
def lx_has (ls : Array Slot) (nL : Nat) (lv : List (Option Value)) : Prop := lv.length = nL ∧ ls.size = nL ∧ lv_wf ls ∧ ∀ (i : Nat) (v : Value), lv[i]? = some (some v) → ls[i]? = some (.val v)
def lx_l (lv : List (Option Value)) : List (Nat × Value) := (List.range lv.length).filterMap (fun i => match lv[i]? with
  | some (some v) => some (i, v)
  | _ => none)
theorem lx_mem {lv : List (Option Value)} {i : Nat} {v : Value} : (i, v) ∈ lx_l lv ↔ lv[i]? = some (some v) := by
  constructor
  · intro h
    obtain ⟨j, -, hj⟩ := List.mem_filterMap.mp h
    split at hj
    · rename_i w hw
      injection hj with hj
      injection hj with h1 h2
      rw [← h1, ← h2]; exact hw
    · cases hj
  · intro h
    refine List.mem_filterMap.mpr ⟨i, ?_, ?_⟩
    · rw [List.mem_range]
      exact (List.getElem?_eq_some_iff.mp h).1
    · simp [h]
theorem lx_lv {ls : Array Slot} {nL : Nat} {lv : List (Option Value)} (h : lx_has ls nL lv) : lv_has ls nL (lx_l lv) :=
  ⟨h.2.1, h.2.2.1, fun q hq => h.2.2.2 q.1 q.2 (lx_mem.mp hq)⟩
def lx_c1 (o : Option Value) : Bool := match o with
  | some (.long _) => false
  | some (.double _) => false
  | _ => true
theorem lx_c1_cat {v : Value} (h : lx_c1 (some v) = true) : ¬ v.category = 2 := by
  cases v <;> simp [lx_c1, Value.category] at h ⊢
theorem lx_store1 {ls ls' : Array Slot} {nL : Nat} {lv : List (Option Value)} {i : Nat} {v : Value} (h : lx_has ls nL lv) (hi : i < lv.length) (hp : i = 0 ∨ lx_c1 (lv.getD (i - 1) none) = true)
    (h' : lv_has ls' nL ((i, v) :: (lx_l lv).filter (fun q => !(q.1 == i) && !(q.1 + 1 == i && q.2.category == 2)))) : lx_has ls' nL (lv.set i (some v)) := by
  refine ⟨by rw [List.length_set]; exact h.1, h'.1, h'.2.1, fun j w hj => ?_⟩
  by_cases e : j = i
  · subst e
    rw [List.getElem?_set_self hi] at hj
    injection hj with hj; injection hj with hj
    subst hj
    exact h'.2.2 (j, v) List.mem_cons_self
  · rw [List.getElem?_set_ne (fun q => e q.symm)] at hj
    refine h'.2.2 (j, w) (List.mem_cons_of_mem _ (List.mem_filter.mpr ⟨lx_mem.mpr hj, ?_⟩))
    have e1 : (j == i) = false := by simp [e]
    by_cases e2 : j + 1 = i
    · have hc : lx_c1 (some w) = true := by
        rcases hp with hp | hp
        · omega
        · have : i - 1 = j := by omega
          rw [this, List.getD_eq_getElem?_getD, hj] at hp
          exact hp
      have := lx_c1_cat hc
      simp [e1, this]
    · have : (j + 1 == i) = false := by simp [e2]
      simp [e1, this]
theorem lx_store2 {ls ls' : Array Slot} {nL : Nat} {lv : List (Option Value)} {i : Nat} {v : Value} (h : lx_has ls nL lv) (hi : i + 1 < lv.length) (hp : i = 0 ∨ lx_c1 (lv.getD (i - 1) none) = true)
    (h' : lv_has ls' nL ((i, v) :: (lx_l lv).filter (fun q => !(q.1 == i) && (!(q.1 == i + 1) && !(q.1 + 1 == i && q.2.category == 2))))) : lx_has ls' nL ((lv.set i (some v)).set (i + 1) none) := by
  refine ⟨by rw [List.length_set, List.length_set]; exact h.1, h'.1, h'.2.1, fun j w hj => ?_⟩
  by_cases e0 : j = i + 1
  · subst e0
    rw [List.getElem?_set_self (by rw [List.length_set]; exact hi)] at hj
    injection hj with hj; cases hj
  rw [List.getElem?_set_ne (fun q => e0 q.symm)] at hj
  by_cases e : j = i
  · subst e
    rw [List.getElem?_set_self (by omega)] at hj
    injection hj with hj; injection hj with hj
    subst hj
    exact h'.2.2 (j, v) List.mem_cons_self
  · rw [List.getElem?_set_ne (fun q => e q.symm)] at hj
    refine h'.2.2 (j, w) (List.mem_cons_of_mem _ (List.mem_filter.mpr ⟨lx_mem.mpr hj, ?_⟩))
    have e1 : (j == i) = false := by simp [e]
    have e3 : (j == i + 1) = false := by simp [e0]
    by_cases e2 : j + 1 = i
    · have hc : lx_c1 (some w) = true := by
        rcases hp with hp | hp
        · omega
        · have : i - 1 = j := by omega
          rw [this, List.getD_eq_getElem?_getD, hj] at hp
          exact hp
      have := lx_c1_cat hc
      simp [e1, e3, this]
    · have : (j + 1 == i) = false := by simp [e2]
      simp [e1, e3, this]
theorem lx_entry_mem (vs : List Value) (r : Nat) : ∀ (k : Nat), (∀ v ∈ vs, v.category = 1) → ∀ (j : Nat) (v : Value), (vs.map some ++ List.replicate r none)[j]? = some (some v) → (k + j, v) ∈ lv_args k vs := by
  induction vs with
  | nil =>
    intro k _ j v h
    simp only [List.map_nil, List.nil_append] at h
    have := List.mem_of_getElem? h
    rw [List.mem_replicate] at this
    cases this.2
  | cons w vs ih =>
    intro k hc j v h
    have hw : ¬ w.category = 2 := by have := hc w List.mem_cons_self; omega
    have e : lv_args k (w :: vs) = (k, w) :: lv_args (k + 1) vs := by simp [lv_args, hw]
    rw [e]
    cases j with
    | zero =>
      simp only [List.map_cons, List.cons_append, List.getElem?_cons_zero] at h
      injection h with h; injection h with h
      subst h
      exact List.mem_cons_self
    | succ j =>
      simp only [List.map_cons, List.cons_append, List.getElem?_cons_succ] at h
      have := ih (k + 1) (fun v hv => hc v (List.mem_cons_of_mem _ hv)) j v h
      rw [show k + (j + 1) = k + 1 + j by omega]
      exact List.mem_cons_of_mem _ this
theorem lx_sl_len (vs : List Value) (h : ∀ v ∈ vs, v.category = 1) : (lg_sl vs).length = vs.length := by
  induction vs with
  | nil => rfl
  | cons w vs ih =>
    have hw : ¬ w.category = 2 := by have := h w List.mem_cons_self; omega
    have := ih (fun v hv => h v (List.mem_cons_of_mem _ hv))
    simp only [lg_sl, List.flatMap_cons, hw, if_false, List.length_append, List.length_cons, List.length_nil] at this ⊢
    omega
theorem lx_entry (vs : List Value) {n : Nat} (hc : ∀ v ∈ vs, v.category = 1) (h : vs.length ≤ n) : lx_has ((lg_sl vs ++ List.replicate (n - (lg_sl vs).length) Slot.unset).toArray) n (vs.map some ++ List.replicate (n - vs.length) none) := by
  have hl := lx_sl_len vs hc
  have he := lv_entry vs (n := n) (by rw [hl]; exact h)
  refine ⟨by simp; omega, he.1, he.2.1, fun i v hi => ?_⟩
  have := lx_entry_mem vs _ 0 hc i v hi
  rw [Nat.zero_add] at this
  exact he.2.2 (i, v) this
/-- fewer known locals -/
theorem lx_weak {ls : Array Slot} {nL : Nat} {lv lv' : List (Option Value)} (h : lx_has ls nL lv) (hl : lv'.length = lv.length) (hw : ∀ i, i < lv.length → lv'[i]? = lv[i]? ∨ lv'[i]? = some none) : lx_has ls nL lv' := by
  refine ⟨by rw [hl]; exact h.1, h.2.1, h.2.2.1, fun i v hi => ?_⟩
  have hlt : i < lv.length := by rw [← hl]; exact (List.getElem?_eq_some_iff.mp hi).1
  rcases hw i hlt with e | e
  · rw [e] at hi; exact h.2.2.2 i v hi
  · rw [e] at hi; injection hi with hi; cases hi
def JJ (X : gx_C) (ws : va_W) (lv : List (Option Value)) (pc : Nat) (st : List Value) : Prop := match X with
  | (p, l, e, R, s, m, args, below, meth, c, Q, D, A, nL, cells, slots) => ∀ (H : Heap) (locs : List Loc) (ls : Array Slot), va_P D vwCl ws H → va_D A ws → va_S A s.heap H locs → lx_has ls nL lv → W p l e R s m args below meth c H locs cells slots Q (F0 m pc ls st)
/-- what a walk stands on: the machine, the method's code, its own name, the tables' words, the array kinds, the room -/
def Ok (X : gx_C) (cc : ByteArray) (own : String) (tys : List (ClassId × FieldType)) (fr lo : Nat) : Prop := match X with
  | (p, _, _, R, s, m, args, _, _, c, _, D, A, nL, cells, slots) => p.tables.exec = Jvm.exec ∧ c.code = cc ∧ c.maxLocals = nL ∧ s.vm.findClass own = some m.cls ∧ (∀ w ∈ lw_all, w.before args s = true) ∧ va_K D vwCl tys s ∧ (∀ q : Nat, s.heap.size ≤ q → A q) ∧ fr ≤ R.frames ∧ lo ≤ R.locals ∧ cells ≤ R.cells ∧ slots ≤ R.slots
section GX
variable {X : gx_C} {cc : ByteArray} {own : String} {tys : List (ClassId × FieldType)} {fr lo : Nat} {ws ws' : va_W} {lv lv' : List (Option Value)} {pc : Nat} {st : List Value}
/-- forget locals -/
theorem x_weak (hl : lv'.length = lv.length) (hw : ∀ i, i < lv.length → lv'[i]? = lv[i]? ∨ lv'[i]? = some none) (k : JJ X ws lv' pc st) : JJ X ws lv pc st := by
  obtain ⟨p, l, e, R, s, m, args, below, meth, c, Q, D, A, nL, cells, slots⟩ := X
  exact fun H locs ls hP hD hS h => k H locs ls hP hD hS (lx_weak h hl hw)
/-- the top of the stack by another name -/
theorem x_top {x v : Int32} (e : x = v) (k : JJ X ws lv pc (.int v :: st)) : JJ X ws lv pc (.int x :: st) := by rw [e]; exact k
theorem x_topl {x v : Int64} (e : x = v) (k : JJ X ws lv pc (.long v :: st)) : JJ X ws lv pc (.long x :: st) := by rw [e]; exact k
theorem x_ws (e : ws = ws') (k : JJ X ws' lv pc st) : JJ X ws lv pc st := by rw [e]; exact k
theorem x_lv (e : lv = lv') (k : JJ X ws lv' pc st) : JJ X ws lv pc st := by rw [e]; exact k
theorem x_iconst {n : Int} (v : Int32) (h : Ok X cc own tys fr lo) (hd : decode cc pc = .ok (.iconst n, 1)) (hv : Int32.ofInt n = v) (k : JJ X ws lv (pc + 1) (.int v :: st)) : JJ X ws lv pc (st) := by
  obtain ⟨p, l, e, R, s, m, args, below, meth, c, Q, D, A, nL, cells, slots⟩ := X
  exact fun H locs ls hP hD hS hl => lv_iconst h.1 h.2.1 hd hv (k H locs ls hP hD hS hl)
theorem x_bipush {n : Int} (v : Int32) (h : Ok X cc own tys fr lo) (hd : decode cc pc = .ok (.bipush n, 2)) (hv : (Int8.ofInt n).toInt32 = v) (k : JJ X ws lv (pc + 2) (.int v :: st)) : JJ X ws lv pc (st) := by
  obtain ⟨p, l, e, R, s, m, args, below, meth, c, Q, D, A, nL, cells, slots⟩ := X
  exact fun H locs ls hP hD hS hl => lv_bipush h.1 h.2.1 hd hv (k H locs ls hP hD hS hl)
theorem x_lconst {n : Fin 2} (v : Int64) (h : Ok X cc own tys fr lo) (hd : decode cc pc = .ok (.lconst n, 1)) (hv : Int64.ofNat (n : Nat) = v) (k : JJ X ws lv (pc + 1) (.long v :: st)) : JJ X ws lv pc (st) := by
  obtain ⟨p, l, e, R, s, m, args, below, meth, c, Q, D, A, nL, cells, slots⟩ := X
  exact fun H locs ls hP hD hS hl => lv_lconst h.1 h.2.1 hd hv (k H locs ls hP hD hS hl)
theorem x_iload_n {q : Fin 4} {x : Int32} (h : Ok X cc own tys fr lo) (hd : decode cc pc = .ok (.iload_n q, 1)) (hv : lv[(q : Nat)]? = some (some (.int x))) (k : JJ X ws lv (pc + 1) (.int x :: st)) : JJ X ws lv pc (st) := by
  obtain ⟨p, l, e, R, s, m, args, below, meth, c, Q, D, A, nL, cells, slots⟩ := X
  exact fun H locs ls hP hD hS hl => lv_iload_n h.1 h.2.1 hd rfl (hl.2.2.2 _ _ hv) (k H locs ls hP hD hS hl)
theorem x_iload {i : Nat} {x : Int32} (h : Ok X cc own tys fr lo) (hd : decode cc pc = .ok (.iload i, 2)) (hv : lv[i]? = some (some (.int x))) (k : JJ X ws lv (pc + 2) (.int x :: st)) : JJ X ws lv pc (st) := by
  obtain ⟨p, l, e, R, s, m, args, below, meth, c, Q, D, A, nL, cells, slots⟩ := X
  exact fun H locs ls hP hD hS hl => lv_iload h.1 h.2.1 hd (hl.2.2.2 _ _ hv) (k H locs ls hP hD hS hl)
theorem x_lload_n {q : Fin 4} {x : Int64} (h : Ok X cc own tys fr lo) (hd : decode cc pc = .ok (.lload_n q, 1)) (hv : lv[(q : Nat)]? = some (some (.long x))) (k : JJ X ws lv (pc + 1) (.long x :: st)) : JJ X ws lv pc (st) := by
  obtain ⟨p, l, e, R, s, m, args, below, meth, c, Q, D, A, nL, cells, slots⟩ := X
  exact fun H locs ls hP hD hS hl => lv_lload_n h.1 h.2.1 hd rfl (hl.2.2.2 _ _ hv) (k H locs ls hP hD hS hl)
theorem x_lload {i : Nat} {x : Int64} (h : Ok X cc own tys fr lo) (hd : decode cc pc = .ok (.lload i, 2)) (hv : lv[i]? = some (some (.long x))) (k : JJ X ws lv (pc + 2) (.long x :: st)) : JJ X ws lv pc (st) := by
  obtain ⟨p, l, e, R, s, m, args, below, meth, c, Q, D, A, nL, cells, slots⟩ := X
  exact fun H locs ls hP hD hS hl => lv_lload h.1 h.2.1 hd (hl.2.2.2 _ _ hv) (k H locs ls hP hD hS hl)
theorem x_aload_n {q : Fin 4} {x : Nat} (h : Ok X cc own tys fr lo) (hd : decode cc pc = .ok (.aload_n q, 1)) (hv : lv[(q : Nat)]? = some (some (.ref x))) (k : JJ X ws lv (pc + 1) (.ref x :: st)) : JJ X ws lv pc (st) := by
  obtain ⟨p, l, e, R, s, m, args, below, meth, c, Q, D, A, nL, cells, slots⟩ := X
  exact fun H locs ls hP hD hS hl => lv_aload_n h.1 h.2.1 hd rfl (hl.2.2.2 _ _ hv) (k H locs ls hP hD hS hl)
theorem x_aload {i : Nat} {x : Nat} (h : Ok X cc own tys fr lo) (hd : decode cc pc = .ok (.aload i, 2)) (hv : lv[i]? = some (some (.ref x))) (k : JJ X ws lv (pc + 2) (.ref x :: st)) : JJ X ws lv pc (st) := by
  obtain ⟨p, l, e, R, s, m, args, below, meth, c, Q, D, A, nL, cells, slots⟩ := X
  exact fun H locs ls hP hD hS hl => lv_aload h.1 h.2.1 hd (hl.2.2.2 _ _ hv) (k H locs ls hP hD hS hl)
theorem x_iadd {x y : Int32} (h : Ok X cc own tys fr lo) (hd : decode cc pc = .ok (.iadd, 1)) (k : JJ X ws lv (pc + 1) (.int (x + y) :: st)) : JJ X ws lv pc (.int y :: .int x :: st) := by
  obtain ⟨p, l, e, R, s, m, args, below, meth, c, Q, D, A, nL, cells, slots⟩ := X
  exact fun H locs ls hP hD hS hl => lv_iadd h.1 h.2.1 hd (k H locs ls hP hD hS hl)
theorem x_isub {x y : Int32} (h : Ok X cc own tys fr lo) (hd : decode cc pc = .ok (.isub, 1)) (k : JJ X ws lv (pc + 1) (.int (x - y) :: st)) : JJ X ws lv pc (.int y :: .int x :: st) := by
  obtain ⟨p, l, e, R, s, m, args, below, meth, c, Q, D, A, nL, cells, slots⟩ := X
  exact fun H locs ls hP hD hS hl => lv_isub h.1 h.2.1 hd (k H locs ls hP hD hS hl)
theorem x_imul {x y : Int32} (h : Ok X cc own tys fr lo) (hd : decode cc pc = .ok (.imul, 1)) (k : JJ X ws lv (pc + 1) (.int (x * y) :: st)) : JJ X ws lv pc (.int y :: .int x :: st) := by
  obtain ⟨p, l, e, R, s, m, args, below, meth, c, Q, D, A, nL, cells, slots⟩ := X
  exact fun H locs ls hP hD hS hl => lv_imul h.1 h.2.1 hd (k H locs ls hP hD hS hl)
theorem x_iand {x y : Int32} (h : Ok X cc own tys fr lo) (hd : decode cc pc = .ok (.iand, 1)) (k : JJ X ws lv (pc + 1) (.int (x &&& y) :: st)) : JJ X ws lv pc (.int y :: .int x :: st) := by
  obtain ⟨p, l, e, R, s, m, args, below, meth, c, Q, D, A, nL, cells, slots⟩ := X
  exact fun H locs ls hP hD hS hl => lv_iand h.1 h.2.1 hd (k H locs ls hP hD hS hl)
theorem x_ior {x y : Int32} (h : Ok X cc own tys fr lo) (hd : decode cc pc = .ok (.ior, 1)) (k : JJ X ws lv (pc + 1) (.int (x ||| y) :: st)) : JJ X ws lv pc (.int y :: .int x :: st) := by
  obtain ⟨p, l, e, R, s, m, args, below, meth, c, Q, D, A, nL, cells, slots⟩ := X
  exact fun H locs ls hP hD hS hl => lv_ior h.1 h.2.1 hd (k H locs ls hP hD hS hl)
theorem x_ixor {x y : Int32} (h : Ok X cc own tys fr lo) (hd : decode cc pc = .ok (.ixor, 1)) (k : JJ X ws lv (pc + 1) (.int (x ^^^ y) :: st)) : JJ X ws lv pc (.int y :: .int x :: st) := by
  obtain ⟨p, l, e, R, s, m, args, below, meth, c, Q, D, A, nL, cells, slots⟩ := X
  exact fun H locs ls hP hD hS hl => lv_ixor h.1 h.2.1 hd (k H locs ls hP hD hS hl)
theorem x_ishl {x y : Int32} (h : Ok X cc own tys fr lo) (hd : decode cc pc = .ok (.ishl, 1)) (k : JJ X ws lv (pc + 1) (.int (x <<< (y &&& 31)) :: st)) : JJ X ws lv pc (.int y :: .int x :: st) := by
  obtain ⟨p, l, e, R, s, m, args, below, meth, c, Q, D, A, nL, cells, slots⟩ := X
  exact fun H locs ls hP hD hS hl => lv_ishl h.1 h.2.1 hd (k H locs ls hP hD hS hl)
theorem x_ishr {x y : Int32} (h : Ok X cc own tys fr lo) (hd : decode cc pc = .ok (.ishr, 1)) (k : JJ X ws lv (pc + 1) (.int (x >>> (y &&& 31)) :: st)) : JJ X ws lv pc (.int y :: .int x :: st) := by
  obtain ⟨p, l, e, R, s, m, args, below, meth, c, Q, D, A, nL, cells, slots⟩ := X
  exact fun H locs ls hP hD hS hl => lv_ishr h.1 h.2.1 hd (k H locs ls hP hD hS hl)
theorem x_idiv {x y : Int32} (h : Ok X cc own tys fr lo) (hd : decode cc pc = .ok (.idiv, 1)) (hne : ¬ y = 0) (k : JJ X ws lv (pc + 1) (.int (x / y) :: st)) : JJ X ws lv pc (.int y :: .int x :: st) := by
  obtain ⟨p, l, e, R, s, m, args, below, meth, c, Q, D, A, nL, cells, slots⟩ := X
  exact fun H locs ls hP hD hS hl => lv_idiv h.1 h.2.1 hd hne (k H locs ls hP hD hS hl)
theorem x_irem {x y : Int32} (h : Ok X cc own tys fr lo) (hd : decode cc pc = .ok (.irem, 1)) (hne : ¬ y = 0) (k : JJ X ws lv (pc + 1) (.int (x - x / y * y) :: st)) : JJ X ws lv pc (.int y :: .int x :: st) := by
  obtain ⟨p, l, e, R, s, m, args, below, meth, c, Q, D, A, nL, cells, slots⟩ := X
  exact fun H locs ls hP hD hS hl => lv_irem h.1 h.2.1 hd hne (k H locs ls hP hD hS hl)
theorem x_ineg {x : Int32} (h : Ok X cc own tys fr lo) (hd : decode cc pc = .ok (.ineg, 1)) (k : JJ X ws lv (pc + 1) (.int (-x) :: st)) : JJ X ws lv pc (.int x :: st) := by
  obtain ⟨p, l, e, R, s, m, args, below, meth, c, Q, D, A, nL, cells, slots⟩ := X
  exact fun H locs ls hP hD hS hl => lv_ineg h.1 h.2.1 hd (k H locs ls hP hD hS hl)
theorem x_lneg {x : Int64} (h : Ok X cc own tys fr lo) (hd : decode cc pc = .ok (.lneg, 1)) (k : JJ X ws lv (pc + 1) (.long (-x) :: st)) : JJ X ws lv pc (.long x :: st) := by
  obtain ⟨p, l, e, R, s, m, args, below, meth, c, Q, D, A, nL, cells, slots⟩ := X
  exact fun H locs ls hP hD hS hl => lv_lneg h.1 h.2.1 hd (k H locs ls hP hD hS hl)
theorem x_ladd {x y : Int64} (h : Ok X cc own tys fr lo) (hd : decode cc pc = .ok (.ladd, 1)) (k : JJ X ws lv (pc + 1) (.long (x + y) :: st)) : JJ X ws lv pc (.long y :: .long x :: st) := by
  obtain ⟨p, l, e, R, s, m, args, below, meth, c, Q, D, A, nL, cells, slots⟩ := X
  exact fun H locs ls hP hD hS hl => lv_ladd h.1 h.2.1 hd (k H locs ls hP hD hS hl)
theorem x_lmul {x y : Int64} (h : Ok X cc own tys fr lo) (hd : decode cc pc = .ok (.lmul, 1)) (k : JJ X ws lv (pc + 1) (.long (x * y) :: st)) : JJ X ws lv pc (.long y :: .long x :: st) := by
  obtain ⟨p, l, e, R, s, m, args, below, meth, c, Q, D, A, nL, cells, slots⟩ := X
  exact fun H locs ls hP hD hS hl => lv_lmul h.1 h.2.1 hd (k H locs ls hP hD hS hl)
theorem x_ldiv {x y : Int64} (h : Ok X cc own tys fr lo) (hd : decode cc pc = .ok (.ldiv, 1)) (hne : ¬ y = 0) (k : JJ X ws lv (pc + 1) (.long (x / y) :: st)) : JJ X ws lv pc (.long y :: .long x :: st) := by
  obtain ⟨p, l, e, R, s, m, args, below, meth, c, Q, D, A, nL, cells, slots⟩ := X
  exact fun H locs ls hP hD hS hl => lv_ldiv h.1 h.2.1 hd hne (k H locs ls hP hD hS hl)
theorem x_i2l {x : Int32} (v : Int64) (h : Ok X cc own tys fr lo) (hd : decode cc pc = .ok (.i2l, 1)) (hv : x.toInt64 = v) (k : JJ X ws lv (pc + 1) (.long v :: st)) : JJ X ws lv pc (.int x :: st) := by
  obtain ⟨p, l, e, R, s, m, args, below, meth, c, Q, D, A, nL, cells, slots⟩ := X
  exact fun H locs ls hP hD hS hl => lv_i2l h.1 h.2.1 hd hv (k H locs ls hP hD hS hl)
theorem x_l2i {x : Int64} (v : Int32) (h : Ok X cc own tys fr lo) (hd : decode cc pc = .ok (.l2i, 1)) (hv : x.toInt32 = v) (k : JJ X ws lv (pc + 1) (.int v :: st)) : JJ X ws lv pc (.long x :: st) := by
  obtain ⟨p, l, e, R, s, m, args, below, meth, c, Q, D, A, nL, cells, slots⟩ := X
  exact fun H locs ls hP hD hS hl => lv_l2i h.1 h.2.1 hd hv (k H locs ls hP hD hS hl)
theorem x_i2b {x : Int32} (v : Int32) (h : Ok X cc own tys fr lo) (hd : decode cc pc = .ok (.i2b, 1)) (hv : x.toInt8.toInt32 = v) (k : JJ X ws lv (pc + 1) (.int v :: st)) : JJ X ws lv pc (.int x :: st) := by
  obtain ⟨p, l, e, R, s, m, args, below, meth, c, Q, D, A, nL, cells, slots⟩ := X
  exact fun H locs ls hP hD hS hl => lv_i2b h.1 h.2.1 hd hv (k H locs ls hP hD hS hl)
theorem x_i2s {x : Int32} (v : Int32) (h : Ok X cc own tys fr lo) (hd : decode cc pc = .ok (.i2s, 1)) (hv : x.toInt16.toInt32 = v) (k : JJ X ws lv (pc + 1) (.int v :: st)) : JJ X ws lv pc (.int x :: st) := by
  obtain ⟨p, l, e, R, s, m, args, below, meth, c, Q, D, A, nL, cells, slots⟩ := X
  exact fun H locs ls hP hD hS hl => lv_i2s h.1 h.2.1 hd hv (k H locs ls hP hD hS hl)
theorem x_dup {v : Value} (h : Ok X cc own tys fr lo) (hd : decode cc pc = .ok (.dup, 1)) (hc : v.category = 1) (k : JJ X ws lv (pc + 1) (v :: v :: st)) : JJ X ws lv pc (v :: st) := by
  obtain ⟨p, l, e, R, s, m, args, below, meth, c, Q, D, A, nL, cells, slots⟩ := X
  exact fun H locs ls hP hD hS hl => lv_dup h.1 h.2.1 hd hc (k H locs ls hP hD hS hl)
theorem x_pop {v : Value} (h : Ok X cc own tys fr lo) (hd : decode cc pc = .ok (.pop, 1)) (hc : v.category = 1) (k : JJ X ws lv (pc + 1) (st)) : JJ X ws lv pc (v :: st) := by
  obtain ⟨p, l, e, R, s, m, args, below, meth, c, Q, D, A, nL, cells, slots⟩ := X
  exact fun H locs ls hP hD hS hl => lv_pop h.1 h.2.1 hd hc (k H locs ls hP hD hS hl)
theorem x_dup2 {v w : Value} (h : Ok X cc own tys fr lo) (hd : decode cc pc = .ok (.dup2, 1)) (hc : v.category = 1) (hc2 : w.category = 1) (k : JJ X ws lv (pc + 1) (v :: w :: v :: w :: st)) : JJ X ws lv pc (v :: w :: st) := by
  obtain ⟨p, l, e, R, s, m, args, below, meth, c, Q, D, A, nL, cells, slots⟩ := X
  exact fun H locs ls hP hD hS hl => lv_dup2_11 h.1 h.2.1 hd hc hc2 (k H locs ls hP hD hS hl)
theorem x_goto {off : Int} (tgt : Nat) (h : Ok X cc own tys fr lo) (hd : decode cc pc = .ok (.goto off, 3)) (ht : (pc : Int) + off = (tgt : Int)) (k : JJ X ws lv tgt st) : JJ X ws lv pc st := by
  obtain ⟨p, l, e, R, s, m, args, below, meth, c, Q, D, A, nL, cells, slots⟩ := X
  exact fun H locs ls hP hD hS hl => lv_goto h.1 h.2.1 hd ht (k H locs ls hP hD hS hl)
theorem x_icmp_eq {x y : Int32} {off : Int} (tgt : Nat) (h : Ok X cc own tys fr lo) (hd : decode cc pc = .ok (.if_icmp .eq off, 3)) (ht : (pc : Int) + off = (tgt : Int)) (kt : x = y → JJ X ws lv tgt st) (kf : ¬ x = y → JJ X ws lv (pc + 3) st) : JJ X ws lv pc (.int y :: .int x :: st) := by
  obtain ⟨p, l, e, R, s, m, args, below, meth, c, Q, D, A, nL, cells, slots⟩ := X
  exact fun H locs ls hP hD hS hl => lv_icmp_eq h.1 h.2.1 hd ht (fun q => kt q H locs ls hP hD hS hl) (fun q => kf q H locs ls hP hD hS hl)
theorem x_if_eq {x : Int32} {off : Int} (tgt : Nat) (h : Ok X cc own tys fr lo) (hd : decode cc pc = .ok (.ifCond .eq off, 3)) (ht : (pc : Int) + off = (tgt : Int)) (kt : x = 0 → JJ X ws lv tgt st) (kf : ¬ x = 0 → JJ X ws lv (pc + 3) st) : JJ X ws lv pc (.int x :: st) := by
  obtain ⟨p, l, e, R, s, m, args, below, meth, c, Q, D, A, nL, cells, slots⟩ := X
  exact fun H locs ls hP hD hS hl => lv_if_eq h.1 h.2.1 hd ht (fun q => kt q H locs ls hP hD hS hl) (fun q => kf q H locs ls hP hD hS hl)
theorem x_icmp_ne {x y : Int32} {off : Int} (tgt : Nat) (h : Ok X cc own tys fr lo) (hd : decode cc pc = .ok (.if_icmp .ne off, 3)) (ht : (pc : Int) + off = (tgt : Int)) (kt : ¬ x = y → JJ X ws lv tgt st) (kf : x = y → JJ X ws lv (pc + 3) st) : JJ X ws lv pc (.int y :: .int x :: st) := by
  obtain ⟨p, l, e, R, s, m, args, below, meth, c, Q, D, A, nL, cells, slots⟩ := X
  exact fun H locs ls hP hD hS hl => lv_icmp_ne h.1 h.2.1 hd ht (fun q => kt q H locs ls hP hD hS hl) (fun q => kf q H locs ls hP hD hS hl)
theorem x_if_ne {x : Int32} {off : Int} (tgt : Nat) (h : Ok X cc own tys fr lo) (hd : decode cc pc = .ok (.ifCond .ne off, 3)) (ht : (pc : Int) + off = (tgt : Int)) (kt : ¬ x = 0 → JJ X ws lv tgt st) (kf : x = 0 → JJ X ws lv (pc + 3) st) : JJ X ws lv pc (.int x :: st) := by
  obtain ⟨p, l, e, R, s, m, args, below, meth, c, Q, D, A, nL, cells, slots⟩ := X
  exact fun H locs ls hP hD hS hl => lv_if_ne h.1 h.2.1 hd ht (fun q => kt q H locs ls hP hD hS hl) (fun q => kf q H locs ls hP hD hS hl)
theorem x_icmp_lt {x y : Int32} {off : Int} (tgt : Nat) (h : Ok X cc own tys fr lo) (hd : decode cc pc = .ok (.if_icmp .lt off, 3)) (ht : (pc : Int) + off = (tgt : Int)) (kt : x < y → JJ X ws lv tgt st) (kf : ¬ x < y → JJ X ws lv (pc + 3) st) : JJ X ws lv pc (.int y :: .int x :: st) := by
  obtain ⟨p, l, e, R, s, m, args, below, meth, c, Q, D, A, nL, cells, slots⟩ := X
  exact fun H locs ls hP hD hS hl => lv_icmp_lt h.1 h.2.1 hd ht (fun q => kt q H locs ls hP hD hS hl) (fun q => kf q H locs ls hP hD hS hl)
theorem x_if_lt {x : Int32} {off : Int} (tgt : Nat) (h : Ok X cc own tys fr lo) (hd : decode cc pc = .ok (.ifCond .lt off, 3)) (ht : (pc : Int) + off = (tgt : Int)) (kt : x < 0 → JJ X ws lv tgt st) (kf : ¬ x < 0 → JJ X ws lv (pc + 3) st) : JJ X ws lv pc (.int x :: st) := by
  obtain ⟨p, l, e, R, s, m, args, below, meth, c, Q, D, A, nL, cells, slots⟩ := X
  exact fun H locs ls hP hD hS hl => lv_if_lt h.1 h.2.1 hd ht (fun q => kt q H locs ls hP hD hS hl) (fun q => kf q H locs ls hP hD hS hl)
theorem x_icmp_ge {x y : Int32} {off : Int} (tgt : Nat) (h : Ok X cc own tys fr lo) (hd : decode cc pc = .ok (.if_icmp .ge off, 3)) (ht : (pc : Int) + off = (tgt : Int)) (kt : y ≤ x → JJ X ws lv tgt st) (kf : ¬ y ≤ x → JJ X ws lv (pc + 3) st) : JJ X ws lv pc (.int y :: .int x :: st) := by
  obtain ⟨p, l, e, R, s, m, args, below, meth, c, Q, D, A, nL, cells, slots⟩ := X
  exact fun H locs ls hP hD hS hl => lv_icmp_ge h.1 h.2.1 hd ht (fun q => kt q H locs ls hP hD hS hl) (fun q => kf q H locs ls hP hD hS hl)
theorem x_if_ge {x : Int32} {off : Int} (tgt : Nat) (h : Ok X cc own tys fr lo) (hd : decode cc pc = .ok (.ifCond .ge off, 3)) (ht : (pc : Int) + off = (tgt : Int)) (kt : 0 ≤ x → JJ X ws lv tgt st) (kf : ¬ 0 ≤ x → JJ X ws lv (pc + 3) st) : JJ X ws lv pc (.int x :: st) := by
  obtain ⟨p, l, e, R, s, m, args, below, meth, c, Q, D, A, nL, cells, slots⟩ := X
  exact fun H locs ls hP hD hS hl => lv_if_ge h.1 h.2.1 hd ht (fun q => kt q H locs ls hP hD hS hl) (fun q => kf q H locs ls hP hD hS hl)
theorem x_icmp_gt {x y : Int32} {off : Int} (tgt : Nat) (h : Ok X cc own tys fr lo) (hd : decode cc pc = .ok (.if_icmp .gt off, 3)) (ht : (pc : Int) + off = (tgt : Int)) (kt : y < x → JJ X ws lv tgt st) (kf : ¬ y < x → JJ X ws lv (pc + 3) st) : JJ X ws lv pc (.int y :: .int x :: st) := by
  obtain ⟨p, l, e, R, s, m, args, below, meth, c, Q, D, A, nL, cells, slots⟩ := X
  exact fun H locs ls hP hD hS hl => lv_icmp_gt h.1 h.2.1 hd ht (fun q => kt q H locs ls hP hD hS hl) (fun q => kf q H locs ls hP hD hS hl)
theorem x_if_gt {x : Int32} {off : Int} (tgt : Nat) (h : Ok X cc own tys fr lo) (hd : decode cc pc = .ok (.ifCond .gt off, 3)) (ht : (pc : Int) + off = (tgt : Int)) (kt : 0 < x → JJ X ws lv tgt st) (kf : ¬ 0 < x → JJ X ws lv (pc + 3) st) : JJ X ws lv pc (.int x :: st) := by
  obtain ⟨p, l, e, R, s, m, args, below, meth, c, Q, D, A, nL, cells, slots⟩ := X
  exact fun H locs ls hP hD hS hl => lv_if_gt h.1 h.2.1 hd ht (fun q => kt q H locs ls hP hD hS hl) (fun q => kf q H locs ls hP hD hS hl)
theorem x_icmp_le {x y : Int32} {off : Int} (tgt : Nat) (h : Ok X cc own tys fr lo) (hd : decode cc pc = .ok (.if_icmp .le off, 3)) (ht : (pc : Int) + off = (tgt : Int)) (kt : x ≤ y → JJ X ws lv tgt st) (kf : ¬ x ≤ y → JJ X ws lv (pc + 3) st) : JJ X ws lv pc (.int y :: .int x :: st) := by
  obtain ⟨p, l, e, R, s, m, args, below, meth, c, Q, D, A, nL, cells, slots⟩ := X
  exact fun H locs ls hP hD hS hl => lv_icmp_le h.1 h.2.1 hd ht (fun q => kt q H locs ls hP hD hS hl) (fun q => kf q H locs ls hP hD hS hl)
theorem x_if_le {x : Int32} {off : Int} (tgt : Nat) (h : Ok X cc own tys fr lo) (hd : decode cc pc = .ok (.ifCond .le off, 3)) (ht : (pc : Int) + off = (tgt : Int)) (kt : x ≤ 0 → JJ X ws lv tgt st) (kf : ¬ x ≤ 0 → JJ X ws lv (pc + 3) st) : JJ X ws lv pc (.int x :: st) := by
  obtain ⟨p, l, e, R, s, m, args, below, meth, c, Q, D, A, nL, cells, slots⟩ := X
  exact fun H locs ls hP hD hS hl => lv_if_le h.1 h.2.1 hd ht (fun q => kt q H locs ls hP hD hS hl) (fun q => kf q H locs ls hP hD hS hl)
theorem n_eq {a b : Nat} (ha : a < 2147483648) (hb : b < 2147483648) : nI a = nI b ↔ a = b := nI_eq ha hb
theorem n_le {a b : Nat} (ha : a < 2147483648) (hb : b < 2147483648) : nI a ≤ nI b ↔ a ≤ b := nI_leI ha hb
theorem n_lt {a b : Nat} (ha : a < 2147483648) (hb : b < 2147483648) : nI a < nI b ↔ a < b := nI_ltI ha hb
theorem y_icmp_eq {a b : Nat} {off : Int} (tgt : Nat) (h : Ok X cc own tys fr lo) (hd : decode cc pc = .ok (.if_icmp .eq off, 3)) (ht : (pc : Int) + off = (tgt : Int)) (ha : a < 2147483648) (hb : b < 2147483648) (kt : a = b → JJ X ws lv tgt st) (kf : a ≠ b → JJ X ws lv (pc + 3) st) : JJ X ws lv pc (.int (nI b) :: .int (nI a) :: st) := x_icmp_eq tgt h hd ht (fun q => kt ((n_eq ha hb).mp q)) (fun q => kf (fun r => q ((n_eq ha hb).mpr r)))
theorem y_icmp_ne {a b : Nat} {off : Int} (tgt : Nat) (h : Ok X cc own tys fr lo) (hd : decode cc pc = .ok (.if_icmp .ne off, 3)) (ht : (pc : Int) + off = (tgt : Int)) (ha : a < 2147483648) (hb : b < 2147483648) (kt : a ≠ b → JJ X ws lv tgt st) (kf : a = b → JJ X ws lv (pc + 3) st) : JJ X ws lv pc (.int (nI b) :: .int (nI a) :: st) := x_icmp_ne tgt h hd ht (fun q => kt (fun r => q ((n_eq ha hb).mpr r))) (fun q => kf ((n_eq ha hb).mp q))
theorem y_icmp_lt {a b : Nat} {off : Int} (tgt : Nat) (h : Ok X cc own tys fr lo) (hd : decode cc pc = .ok (.if_icmp .lt off, 3)) (ht : (pc : Int) + off = (tgt : Int)) (ha : a < 2147483648) (hb : b < 2147483648) (kt : a < b → JJ X ws lv tgt st) (kf : b ≤ a → JJ X ws lv (pc + 3) st) : JJ X ws lv pc (.int (nI b) :: .int (nI a) :: st) := x_icmp_lt tgt h hd ht (fun q => kt ((n_lt ha hb).mp q)) (fun q => kf (Nat.le_of_not_lt (fun r => q ((n_lt ha hb).mpr r))))
theorem y_icmp_ge {a b : Nat} {off : Int} (tgt : Nat) (h : Ok X cc own tys fr lo) (hd : decode cc pc = .ok (.if_icmp .ge off, 3)) (ht : (pc : Int) + off = (tgt : Int)) (ha : a < 2147483648) (hb : b < 2147483648) (kt : b ≤ a → JJ X ws lv tgt st) (kf : a < b → JJ X ws lv (pc + 3) st) : JJ X ws lv pc (.int (nI b) :: .int (nI a) :: st) := x_icmp_ge tgt h hd ht (fun q => kt ((n_le hb ha).mp q)) (fun q => kf (Nat.lt_of_not_le (fun r => q ((n_le hb ha).mpr r))))
theorem y_icmp_gt {a b : Nat} {off : Int} (tgt : Nat) (h : Ok X cc own tys fr lo) (hd : decode cc pc = .ok (.if_icmp .gt off, 3)) (ht : (pc : Int) + off = (tgt : Int)) (ha : a < 2147483648) (hb : b < 2147483648) (kt : b < a → JJ X ws lv tgt st) (kf : a ≤ b → JJ X ws lv (pc + 3) st) : JJ X ws lv pc (.int (nI b) :: .int (nI a) :: st) := x_icmp_gt tgt h hd ht (fun q => kt ((n_lt hb ha).mp q)) (fun q => kf (Nat.le_of_not_lt (fun r => q ((n_lt hb ha).mpr r))))
theorem y_icmp_le {a b : Nat} {off : Int} (tgt : Nat) (h : Ok X cc own tys fr lo) (hd : decode cc pc = .ok (.if_icmp .le off, 3)) (ht : (pc : Int) + off = (tgt : Int)) (ha : a < 2147483648) (hb : b < 2147483648) (kt : a ≤ b → JJ X ws lv tgt st) (kf : b < a → JJ X ws lv (pc + 3) st) : JJ X ws lv pc (.int (nI b) :: .int (nI a) :: st) := x_icmp_le tgt h hd ht (fun q => kt ((n_le ha hb).mp q)) (fun q => kf (Nat.lt_of_not_le (fun r => q ((n_le ha hb).mpr r))))
theorem y_if_eq {a : Nat} {off : Int} (tgt : Nat) (h : Ok X cc own tys fr lo) (hd : decode cc pc = .ok (.ifCond .eq off, 3)) (ht : (pc : Int) + off = (tgt : Int)) (ha : a < 2147483648) (kt : a = 0 → JJ X ws lv tgt st) (kf : a ≠ 0 → JJ X ws lv (pc + 3) st) : JJ X ws lv pc (.int (nI a) :: st) := x_if_eq tgt h hd ht (fun q => kt ((n_eq ha (by decide)).mp (q.trans nI_0.symm))) (fun q => kf (fun r => q (by rw [r]; exact nI_0)))
theorem y_if_ne {a : Nat} {off : Int} (tgt : Nat) (h : Ok X cc own tys fr lo) (hd : decode cc pc = .ok (.ifCond .ne off, 3)) (ht : (pc : Int) + off = (tgt : Int)) (ha : a < 2147483648) (kt : a ≠ 0 → JJ X ws lv tgt st) (kf : a = 0 → JJ X ws lv (pc + 3) st) : JJ X ws lv pc (.int (nI a) :: st) := x_if_ne tgt h hd ht (fun q => kt (fun r => q (by rw [r]; exact nI_0))) (fun q => kf ((n_eq ha (by decide)).mp (q.trans nI_0.symm)))
theorem y_if_lt {a : Nat} {off : Int} (tgt : Nat) (h : Ok X cc own tys fr lo) (hd : decode cc pc = .ok (.ifCond .lt off, 3)) (ht : (pc : Int) + off = (tgt : Int)) (ha : a < 2147483648) (kf : JJ X ws lv (pc + 3) st) : JJ X ws lv pc (.int (nI a) :: st) := x_if_lt tgt h hd ht (fun q => absurd q (nI_pos ha)) (fun _ => kf)
theorem y_if_le {a : Nat} {off : Int} (tgt : Nat) (h : Ok X cc own tys fr lo) (hd : decode cc pc = .ok (.ifCond .le off, 3)) (ht : (pc : Int) + off = (tgt : Int)) (ha : a < 2147483648) (kt : a = 0 → JJ X ws lv tgt st) (kf : 0 < a → JJ X ws lv (pc + 3) st) : JJ X ws lv pc (.int (nI a) :: st) := x_if_le tgt h hd ht (fun q => kt (Nat.le_zero.mp ((n_le ha (by decide)).mp (by rw [nI_0]; exact q)))) (fun q => kf (Nat.pos_of_ne_zero (fun r => q (by rw [r, nI_0]; decide))))
theorem n_sh : ∀ n, n < 32 → ((nI n &&& 31).toBitVec.smod 32).toNat = n := by decide +kernel
theorem y_iadd {a b : Nat} (h : Ok X cc own tys fr lo) (hd : decode cc pc = .ok (.iadd, 1)) (k : JJ X ws lv (pc + 1) (.int (nI (a + b)) :: st)) : JJ X ws lv pc (.int (nI b) :: .int (nI a) :: st) := x_iadd h hd (x_top (nI_add a b) k)
theorem y_isub {a b : Nat} (h : Ok X cc own tys fr lo) (hd : decode cc pc = .ok (.isub, 1)) (hb : b ≤ a) (k : JJ X ws lv (pc + 1) (.int (nI (a - b)) :: st)) : JJ X ws lv pc (.int (nI b) :: .int (nI a) :: st) := x_isub h hd (x_top (pk_sub hb) k)
theorem y_imul {a b : Nat} (h : Ok X cc own tys fr lo) (hd : decode cc pc = .ok (.imul, 1)) (k : JJ X ws lv (pc + 1) (.int (nI (a * b)) :: st)) : JJ X ws lv pc (.int (nI b) :: .int (nI a) :: st) := x_imul h hd (x_top (pk_mul a b) k)
theorem y_idiv {a b : Nat} (h : Ok X cc own tys fr lo) (hd : decode cc pc = .ok (.idiv, 1)) (ha : a < 2147483648) (h0 : 0 < b) (hb : b < 2147483648) (k : JJ X ws lv (pc + 1) (.int (nI (a / b)) :: st)) : JJ X ws lv pc (.int (nI b) :: .int (nI a) :: st) := x_idiv h hd (nI_ne0 h0 hb) (x_top (pk_div ha h0 hb) k)
theorem y_irem {a b : Nat} (h : Ok X cc own tys fr lo) (hd : decode cc pc = .ok (.irem, 1)) (ha : a < 2147483648) (h0 : 0 < b) (hb : b < 2147483648) (k : JJ X ws lv (pc + 1) (.int (nI (a % b)) :: st)) : JJ X ws lv pc (.int (nI b) :: .int (nI a) :: st) := x_irem h hd (nI_ne0 h0 hb) (x_top (pk_rem ha h0 hb) k)
theorem y_ishr {a b : Nat} (h : Ok X cc own tys fr lo) (hd : decode cc pc = .ok (.ishr, 1)) (ha : a < 2147483648) (hb : b < 32) (k : JJ X ws lv (pc + 1) (.int (nI (a / 2 ^ b)) :: st)) : JJ X ws lv pc (.int (nI b) :: .int (nI a) :: st) := x_ishr h hd (x_top (pk_shrN ha (nI b &&& 31) b (n_sh b hb)) k)
theorem y_ishl {a b : Nat} (h : Ok X cc own tys fr lo) (hd : decode cc pc = .ok (.ishl, 1)) (hb : b < 32) (ha : a * 2 ^ b < 4294967296) (k : JJ X ws lv (pc + 1) (.int (nI (a * 2 ^ b)) :: st)) : JJ X ws lv pc (.int (nI b) :: .int (nI a) :: st) := x_ishl h hd (x_top (pk_shlN (nI b &&& 31) b (n_sh b hb) ha) k)
theorem y_iand7 {a : Nat} (h : Ok X cc own tys fr lo) (hd : decode cc pc = .ok (.iand, 1)) (ha : a < 4294967296) (k : JJ X ws lv (pc + 1) (.int (nI (a % 8)) :: st)) : JJ X ws lv pc (.int (nI 7) :: .int (nI a) :: st) := x_iand h hd (x_top (pk_andN ha (m := nI 7) 3 (by decide +kernel)) k)
theorem y_iand1 {a : Nat} (h : Ok X cc own tys fr lo) (hd : decode cc pc = .ok (.iand, 1)) (ha : a < 4294967296) (k : JJ X ws lv (pc + 1) (.int (nI (a % 2)) :: st)) : JJ X ws lv pc (.int (nI 1) :: .int (nI a) :: st) := x_iand h hd (x_top (pk_andN ha (m := nI 1) 1 (by decide +kernel)) k)
theorem n_or (a b : Nat) : nI a ||| nI b = nI (a ||| b) := by
  apply Int32.toBitVec_inj.mp
  show (BitVec.ofNat 32 a ||| BitVec.ofNat 32 b) = BitVec.ofNat 32 (a ||| b)
  apply BitVec.eq_of_toNat_eq
  simp only [BitVec.toNat_or, BitVec.toNat_ofNat]
  exact (Nat.or_mod_two_pow).symm
theorem y_ior {a b i : Nat} (h : Ok X cc own tys fr lo) (hd : decode cc pc = .ok (.ior, 1)) (ha : a < 2 ^ i) (k : JJ X ws lv (pc + 1) (.int (nI (a + b * 2 ^ i)) :: st)) : JJ X ws lv pc (.int (nI (b * 2 ^ i)) :: .int (nI a) :: st) := x_ior h hd (x_top (by rw [n_or, Nat.or_comm, Nat.mul_comm b, ← Nat.two_pow_add_eq_or_of_lt ha, Nat.add_comm]) k)
theorem x_istore_n {q : Fin 4} {x : Int32} (h : Ok X cc own tys fr lo) (hd : decode cc pc = .ok (.istore_n q, 1)) (hn : (q : Nat) < lv.length) (hp : (q : Nat) = 0 ∨ lx_c1 (lv.getD ((q : Nat) - 1) none) = true) (hs : lv.set (q : Nat) (some (.int x)) = lv') (k : JJ X ws lv' (pc + 1) st) : JJ X ws lv pc (.int x :: st) := by
  obtain ⟨p, l, e, R, s, m, args, below, meth, c, Q, D, A, nL, cells, slots⟩ := X
  exact fun H locs ls hP hD hS hl => lv_istore_n h.1 h.2.1 hd rfl (lx_lv hl) (by rw [← hl.1]; exact hn) rfl (fun ls' hl' => k H locs ls' hP hD hS (hs ▸ lx_store1 hl hn hp hl'))
theorem x_istore {i : Nat} {x : Int32} (h : Ok X cc own tys fr lo) (hd : decode cc pc = .ok (.istore i, 2)) (hn : i < lv.length) (hp : i = 0 ∨ lx_c1 (lv.getD (i - 1) none) = true) (hs : lv.set i (some (.int x)) = lv') (k : JJ X ws lv' (pc + 2) st) : JJ X ws lv pc (.int x :: st) := by
  obtain ⟨p, l, e, R, s, m, args, below, meth, c, Q, D, A, nL, cells, slots⟩ := X
  exact fun H locs ls hP hD hS hl => lv_istore h.1 h.2.1 hd (lx_lv hl) (by rw [← hl.1]; exact hn) rfl (fun ls' hl' => k H locs ls' hP hD hS (hs ▸ lx_store1 hl hn hp hl'))
theorem x_astore_n {q : Fin 4} {x : Nat} (h : Ok X cc own tys fr lo) (hd : decode cc pc = .ok (.astore_n q, 1)) (hn : (q : Nat) < lv.length) (hp : (q : Nat) = 0 ∨ lx_c1 (lv.getD ((q : Nat) - 1) none) = true) (hs : lv.set (q : Nat) (some (.ref x)) = lv') (k : JJ X ws lv' (pc + 1) st) : JJ X ws lv pc (.ref x :: st) := by
  obtain ⟨p, l, e, R, s, m, args, below, meth, c, Q, D, A, nL, cells, slots⟩ := X
  exact fun H locs ls hP hD hS hl => lv_astore_n h.1 h.2.1 hd rfl (lx_lv hl) (by rw [← hl.1]; exact hn) rfl (fun ls' hl' => k H locs ls' hP hD hS (hs ▸ lx_store1 hl hn hp hl'))
theorem x_astore {i : Nat} {x : Nat} (h : Ok X cc own tys fr lo) (hd : decode cc pc = .ok (.astore i, 2)) (hn : i < lv.length) (hp : i = 0 ∨ lx_c1 (lv.getD (i - 1) none) = true) (hs : lv.set i (some (.ref x)) = lv') (k : JJ X ws lv' (pc + 2) st) : JJ X ws lv pc (.ref x :: st) := by
  obtain ⟨p, l, e, R, s, m, args, below, meth, c, Q, D, A, nL, cells, slots⟩ := X
  exact fun H locs ls hP hD hS hl => lv_astore h.1 h.2.1 hd (lx_lv hl) (by rw [← hl.1]; exact hn) rfl (fun ls' hl' => k H locs ls' hP hD hS (hs ▸ lx_store1 hl hn hp hl'))
theorem x_lstore_n {q : Fin 4} {x : Int64} (h : Ok X cc own tys fr lo) (hd : decode cc pc = .ok (.lstore_n q, 1)) (hn : (q : Nat) + 1 < lv.length) (hp : (q : Nat) = 0 ∨ lx_c1 (lv.getD ((q : Nat) - 1) none) = true) (hs : (lv.set (q : Nat) (some (.long x))).set ((q : Nat) + 1) none = lv') (k : JJ X ws lv' (pc + 1) st) : JJ X ws lv pc (.long x :: st) := by
  obtain ⟨p, l, e, R, s, m, args, below, meth, c, Q, D, A, nL, cells, slots⟩ := X
  exact fun H locs ls hP hD hS hl => lv_lstore_n h.1 h.2.1 hd rfl (lx_lv hl) (by rw [← hl.1]; exact hn) rfl (fun ls' hl' => k H locs ls' hP hD hS (hs ▸ lx_store2 hl hn hp hl'))
theorem x_lstore {i : Nat} {x : Int64} (h : Ok X cc own tys fr lo) (hd : decode cc pc = .ok (.lstore i, 2)) (hn : i + 1 < lv.length) (hp : i = 0 ∨ lx_c1 (lv.getD (i - 1) none) = true) (hs : (lv.set i (some (.long x))).set (i + 1) none = lv') (k : JJ X ws lv' (pc + 2) st) : JJ X ws lv pc (.long x :: st) := by
  obtain ⟨p, l, e, R, s, m, args, below, meth, c, Q, D, A, nL, cells, slots⟩ := X
  exact fun H locs ls hP hD hS hl => lv_lstore h.1 h.2.1 hd (lx_lv hl) (by rw [← hl.1]; exact hn) rfl (fun ls' hl' => k H locs ls' hP hD hS (hs ▸ lx_store2 hl hn hp hl'))
theorem x_iinc {i : Nat} {n : Int} {x v : Int32} (h : Ok X cc own tys fr lo) (hd : decode cc pc = .ok (.iinc i n, 3)) (hl0 : lv[i]? = some (some (.int x))) (hv : x + Int32.ofInt n = v) (hp : i = 0 ∨ lx_c1 (lv.getD (i - 1) none) = true) (hs : lv.set i (some (.int v)) = lv') (k : JJ X ws lv' (pc + 3) st) : JJ X ws lv pc st := by
  obtain ⟨p, l, e, R, s, m, args, below, meth, c, Q, D, A, nL, cells, slots⟩ := X
  intro H locs ls hP hD hS hl
  have hn : i < lv.length := (List.getElem?_eq_some_iff.mp hl0).1
  obtain ⟨k0, hk0⟩ := List.getElem?_of_mem (lx_mem.mpr hl0)
  exact lv_iinc h.1 h.2.1 hd (lx_lv hl) hk0 hv (by rw [← hl.1]; exact hn) rfl (fun ls' hl' => k H locs ls' hP hD hS (hs ▸ lx_store1 hl hn hp hl'))
theorem x_iald (q0 t0 : Nat) {a : Nat} {cA : ClassId} {n : Nat} {f : Nat → Int32} {j : Nat} (h : Ok X cc own tys fr lo) (ha : ws[q0]? = some (a, .inl (cA, n, .inl f))) (ht : tys[t0]? = some (cA, .int)) (hd : decode cc pc = .ok (.iaload, 1)) (hn : n < 2147483648) (hj : j < n) (k : JJ X ws lv (pc + 1) (.int (f j) :: st)) : JJ X ws lv pc (.int (nI j) :: .ref a :: st) := by
  obtain ⟨p, l, e, R, s, m, args, below, meth, c, Q, D, A, nL, cells, slots⟩ := X
  exact fun H locs ls hP hD hS hl => va_iald h.1 h.2.1 h.2.2.2.2.2.1 hP q0 t0 ha ht (vp_in_nI hj hn) hd (by rw [nI_clamp (Nat.lt_trans hj hn)]; exact k H locs ls hP hD hS hl)
theorem x_bald (q0 t0 : Nat) {a : Nat} {cA : ClassId} {n : Nat} {f : Nat → Int32} {j : Nat} (h : Ok X cc own tys fr lo) (ha : ws[q0]? = some (a, .inl (cA, n, .inl f))) (ht : tys[t0]? = some (cA, .byte)) (hd : decode cc pc = .ok (.baload, 1)) (hn : n < 2147483648) (hj : j < n) (k : JJ X ws lv (pc + 1) (.int (f j) :: st)) : JJ X ws lv pc (.int (nI j) :: .ref a :: st) := by
  obtain ⟨p, l, e, R, s, m, args, below, meth, c, Q, D, A, nL, cells, slots⟩ := X
  exact fun H locs ls hP hD hS hl => va_bald h.1 h.2.1 h.2.2.2.2.2.1 hP q0 t0 ha ht (vp_in_nI hj hn) hd (by rw [nI_clamp (Nat.lt_trans hj hn)]; exact k H locs ls hP hD hS hl)
theorem x_sald (q0 t0 : Nat) {a : Nat} {cA : ClassId} {n : Nat} {f : Nat → Int32} {j : Nat} (h : Ok X cc own tys fr lo) (ha : ws[q0]? = some (a, .inl (cA, n, .inl f))) (ht : tys[t0]? = some (cA, .short)) (hd : decode cc pc = .ok (.saload, 1)) (hn : n < 2147483648) (hj : j < n) (k : JJ X ws lv (pc + 1) (.int (f j) :: st)) : JJ X ws lv pc (.int (nI j) :: .ref a :: st) := by
  obtain ⟨p, l, e, R, s, m, args, below, meth, c, Q, D, A, nL, cells, slots⟩ := X
  exact fun H locs ls hP hD hS hl => va_sald h.1 h.2.1 h.2.2.2.2.2.1 hP q0 t0 ha ht (vp_in_nI hj hn) hd (by rw [nI_clamp (Nat.lt_trans hj hn)]; exact k H locs ls hP hD hS hl)
theorem x_lald (q0 t0 : Nat) {a : Nat} {cA : ClassId} {n : Nat} {f : Nat → Int64} {j : Nat} (h : Ok X cc own tys fr lo) (ha : ws[q0]? = some (a, .inl (cA, n, .inr (.inl f)))) (ht : tys[t0]? = some (cA, .long)) (hd : decode cc pc = .ok (.laload, 1)) (hn : n < 2147483648) (hj : j < n) (k : JJ X ws lv (pc + 1) (.long (f j) :: st)) : JJ X ws lv pc (.int (nI j) :: .ref a :: st) := by
  obtain ⟨p, l, e, R, s, m, args, below, meth, c, Q, D, A, nL, cells, slots⟩ := X
  exact fun H locs ls hP hD hS hl => va_lald h.1 h.2.1 h.2.2.2.2.2.1 hP q0 t0 ha ht (vp_in_nI hj hn) hd (by rw [nI_clamp (Nat.lt_trans hj hn)]; exact k H locs ls hP hD hS hl)
theorem x_iast (q0 t0 : Nat) {a : Nat} {cA : ClassId} {n : Nat} {f : Nat → Int32} {j : Nat} {x : Int32} (h : Ok X cc own tys fr lo) (ha : ws[q0]? = some (a, .inl (cA, n, .inl f))) (ht : tys[t0]? = some (cA, .int)) (hd : decode cc pc = .ok (.iastore, 1)) (hn : n < 2147483648) (hj : j < n) (hs : ws.set q0 (a, .inl (cA, n, .inl (upd f j (x)))) = ws') (k : JJ X ws' lv (pc + 1) st) : JJ X ws lv pc (.int x :: .int (nI j) :: .ref a :: st) := by
  obtain ⟨p, l, e, R, s, m, args, below, meth, c, Q, D, A, nL, cells, slots⟩ := X
  exact fun H locs ls hP hD hS hl => va_iast h.1 h.2.1 h.2.2.2.2.2.1 hP hD hS q0 t0 ha ht (vp_in_nI hj hn) hd (fun H1 locs1 hP1 hD1 hS1 => k H1 locs1 ls (by rw [nI_clamp (Nat.lt_trans hj hn), hs] at hP1; exact hP1) (by rw [nI_clamp (Nat.lt_trans hj hn), hs] at hD1; exact hD1) hS1 hl)
theorem x_bast (q0 t0 : Nat) {a : Nat} {cA : ClassId} {n : Nat} {f : Nat → Int32} {j : Nat} {x : Int32} (h : Ok X cc own tys fr lo) (ha : ws[q0]? = some (a, .inl (cA, n, .inl f))) (ht : tys[t0]? = some (cA, .byte)) (hd : decode cc pc = .ok (.bastore, 1)) (hn : n < 2147483648) (hj : j < n) (hs : ws.set q0 (a, .inl (cA, n, .inl (upd f j (vp_nar .byte x)))) = ws') (k : JJ X ws' lv (pc + 1) st) : JJ X ws lv pc (.int x :: .int (nI j) :: .ref a :: st) := by
  obtain ⟨p, l, e, R, s, m, args, below, meth, c, Q, D, A, nL, cells, slots⟩ := X
  exact fun H locs ls hP hD hS hl => va_bast h.1 h.2.1 h.2.2.2.2.2.1 hP hD hS q0 t0 ha ht (vp_in_nI hj hn) hd (fun H1 locs1 hP1 hD1 hS1 => k H1 locs1 ls (by rw [nI_clamp (Nat.lt_trans hj hn), hs] at hP1; exact hP1) (by rw [nI_clamp (Nat.lt_trans hj hn), hs] at hD1; exact hD1) hS1 hl)
theorem x_sast (q0 t0 : Nat) {a : Nat} {cA : ClassId} {n : Nat} {f : Nat → Int32} {j : Nat} {x : Int32} (h : Ok X cc own tys fr lo) (ha : ws[q0]? = some (a, .inl (cA, n, .inl f))) (ht : tys[t0]? = some (cA, .short)) (hd : decode cc pc = .ok (.sastore, 1)) (hn : n < 2147483648) (hj : j < n) (hs : ws.set q0 (a, .inl (cA, n, .inl (upd f j (vp_nar .short x)))) = ws') (k : JJ X ws' lv (pc + 1) st) : JJ X ws lv pc (.int x :: .int (nI j) :: .ref a :: st) := by
  obtain ⟨p, l, e, R, s, m, args, below, meth, c, Q, D, A, nL, cells, slots⟩ := X
  exact fun H locs ls hP hD hS hl => va_sast h.1 h.2.1 h.2.2.2.2.2.1 hP hD hS q0 t0 ha ht (vp_in_nI hj hn) hd (fun H1 locs1 hP1 hD1 hS1 => k H1 locs1 ls (by rw [nI_clamp (Nat.lt_trans hj hn), hs] at hP1; exact hP1) (by rw [nI_clamp (Nat.lt_trans hj hn), hs] at hD1; exact hD1) hS1 hl)
theorem x_last (q0 t0 : Nat) {a : Nat} {cA : ClassId} {n : Nat} {f : Nat → Int64} {j : Nat} {x : Int64} (h : Ok X cc own tys fr lo) (ha : ws[q0]? = some (a, .inl (cA, n, .inr (.inl f)))) (ht : tys[t0]? = some (cA, .long)) (hd : decode cc pc = .ok (.lastore, 1)) (hn : n < 2147483648) (hj : j < n) (hs : ws.set q0 (a, .inl (cA, n, .inr (.inl (vp_updL f j x)))) = ws') (k : JJ X ws' lv (pc + 1) st) : JJ X ws lv pc (.long x :: .int (nI j) :: .ref a :: st) := by
  obtain ⟨p, l, e, R, s, m, args, below, meth, c, Q, D, A, nL, cells, slots⟩ := X
  exact fun H locs ls hP hD hS hl => va_last h.1 h.2.1 h.2.2.2.2.2.1 hP hD hS q0 t0 ha ht (vp_in_nI hj hn) hd (fun H1 locs1 hP1 hD1 hS1 => k H1 locs1 ls (by rw [nI_clamp (Nat.lt_trans hj hn), hs] at hP1; exact hP1) (by rw [nI_clamp (Nat.lt_trans hj hn), hs] at hD1; exact hD1) hS1 hl)
theorem x_get {C : String} {T : u_T} {N ci index : Nat} {a : Nat} {fs : List Value} {v : Value} (h : Ok X cc own tys fr lo) (hin : ∀ w ∈ u_ws C T N, w ∈ lw_all) (q0 : Nat) (he : ws[q0]? = some (a, .inr (ci, fs))) (hc : vwCl[ci]? = some (C, T, N)) (j : Nat) (hj : j < N) (hlink : Cond.fieldLink own index (T j).1 (T j).2.1 (T j).2.2.1 ∈ lw_all) (hv : fs[j]? = some v) (hd : decode cc pc = .ok (.getfield index, 3)) (k : JJ X ws lv (pc + 3) (v :: st)) : JJ X ws lv pc (.ref a :: st) := by
  obtain ⟨p, l, e, R, s, m, args, below, meth, c, Q, D, A, nL, cells, slots⟩ := X
  exact fun H locs ls hP hD hS hl => va_get h.1 h.2.1 h.2.2.2.2.1 hin h.2.2.2.1 h.2.2.2.2.2.1 hP q0 he hc j hj (h.2.2.2.2.1 _ hlink) (fun _ q => q) hv hd (k H locs ls hP hD hS hl)
theorem x_put {C : String} {T : u_T} {N ci index : Nat} {a : Nat} {fs : List Value} {v : Value} {ty : FieldType} (h : Ok X cc own tys fr lo) (hin : ∀ w ∈ u_ws C T N, w ∈ lw_all) (ty0 : Nat → FieldType) (hty : ∀ k, k < N → parseFieldDescriptor (T k).2.2.1 = some (ty0 k)) (hnm : ∀ a, a < N → ∀ b, b < N → a ≠ b → (T a).2.1 ≠ (T b).2.1) (q0 : Nat) (he : ws[q0]? = some (a, .inr (ci, fs))) (hc : vwCl[ci]? = some (C, T, N)) (j : Nat) (hj : j < N) (hlink : Cond.fieldLink own index (T j).1 (T j).2.1 (T j).2.2.1 ∈ lw_all) (hfin : (T j).2.2.2 = false) (hdd : parseFieldDescriptor (T j).2.2.1 = some ty) (hn : narrow ty v = v) (hfit : fits ty v = true) (hl0 : j < fs.length) (hs : ws.set q0 (a, .inr (ci, fs.set j v)) = ws') (hd : decode cc pc = .ok (.putfield index, 3)) (k : JJ X ws' lv (pc + 3) st) : JJ X ws lv pc (v :: .ref a :: st) := by
  obtain ⟨p, l, e, R, s, m, args, below, meth, c, Q, D, A, nL, cells, slots⟩ := X
  exact fun H locs ls hP hD hS hl => va_put h.1 h.2.1 h.2.2.2.2.1 hin ty0 hty hnm h.2.2.2.1 h.2.2.2.2.2.1 hP hD hS q0 he hc j hj (h.2.2.2.2.1 _ hlink) (fun _ q => q) hfin hdd hn hfit hl0 hd (fun H1 locs1 hP1 hD1 hS1 => k H1 locs1 ls (hs ▸ hP1) (hs ▸ hD1) hS1 hl)
theorem as_4_1 {x0 x1 x2 x3 : Option Value} {v : Nat} (h : Ok X cc own tys fr lo) (hd : decode cc pc = .ok (.astore_n 1, 1)) (hp : lx_c1 x0 = true) (k : JJ X ws [x0, some (.ref v), x2, x3] (pc + 1) st) : JJ X ws [x0, x1, x2, x3] pc (.ref v :: st) := x_astore_n h hd (show 1 < 4 by decide) (Or.inr hp) rfl k
theorem as_4_2 {x0 x1 x2 x3 : Option Value} {v : Nat} (h : Ok X cc own tys fr lo) (hd : decode cc pc = .ok (.astore_n 2, 1)) (hp : lx_c1 x1 = true) (k : JJ X ws [x0, x1, some (.ref v), x3] (pc + 1) st) : JJ X ws [x0, x1, x2, x3] pc (.ref v :: st) := x_astore_n h hd (show 2 < 4 by decide) (Or.inr hp) rfl k
theorem ic_2_1 {x0 : Option Value} {v : Nat} (h : Ok X cc own tys fr lo) (hd : decode cc pc = .ok (.iinc 1 1, 3)) (hp : lx_c1 x0 = true) (k : JJ X ws [x0, some (.int (nI (v + 1)))] (pc + 3) st) : JJ X ws [x0, some (.int (nI v))] pc st := x_iinc h hd rfl (nI_1 v) (Or.inr hp) rfl k
theorem ic_3_1 {x0 x2 : Option Value} {v : Nat} (h : Ok X cc own tys fr lo) (hd : decode cc pc = .ok (.iinc 1 1, 3)) (hp : lx_c1 x0 = true) (k : JJ X ws [x0, some (.int (nI (v + 1))), x2] (pc + 3) st) : JJ X ws [x0, some (.int (nI v)), x2] pc st := x_iinc h hd rfl (nI_1 v) (Or.inr hp) rfl k
theorem ic_3_2 {x0 x1 : Option Value} {v : Nat} (h : Ok X cc own tys fr lo) (hd : decode cc pc = .ok (.iinc 2 1, 3)) (hp : lx_c1 x1 = true) (k : JJ X ws [x0, x1, some (.int (nI (v + 1)))] (pc + 3) st) : JJ X ws [x0, x1, some (.int (nI v))] pc st := x_iinc h hd rfl (nI_1 v) (Or.inr hp) rfl k
theorem ic_4_2 {x0 x1 x3 : Option Value} {v : Nat} (h : Ok X cc own tys fr lo) (hd : decode cc pc = .ok (.iinc 2 1, 3)) (hp : lx_c1 x1 = true) (k : JJ X ws [x0, x1, some (.int (nI (v + 1))), x3] (pc + 3) st) : JJ X ws [x0, x1, some (.int (nI v)), x3] pc st := x_iinc h hd rfl (nI_1 v) (Or.inr hp) rfl k
theorem ic_4_3 {x0 x1 x2 : Option Value} {v : Nat} (h : Ok X cc own tys fr lo) (hd : decode cc pc = .ok (.iinc 3 1, 3)) (hp : lx_c1 x2 = true) (k : JJ X ws [x0, x1, x2, some (.int (nI (v + 1)))] (pc + 3) st) : JJ X ws [x0, x1, x2, some (.int (nI v))] pc st := x_iinc h hd rfl (nI_1 v) (Or.inr hp) rfl k
theorem ic_5_2 {x0 x1 x3 x4 : Option Value} {v : Nat} (h : Ok X cc own tys fr lo) (hd : decode cc pc = .ok (.iinc 2 1, 3)) (hp : lx_c1 x1 = true) (k : JJ X ws [x0, x1, some (.int (nI (v + 1))), x3, x4] (pc + 3) st) : JJ X ws [x0, x1, some (.int (nI v)), x3, x4] pc st := x_iinc h hd rfl (nI_1 v) (Or.inr hp) rfl k
theorem ic_5_3 {x0 x1 x2 x4 : Option Value} {v : Nat} (h : Ok X cc own tys fr lo) (hd : decode cc pc = .ok (.iinc 3 1, 3)) (hp : lx_c1 x2 = true) (k : JJ X ws [x0, x1, x2, some (.int (nI (v + 1))), x4] (pc + 3) st) : JJ X ws [x0, x1, x2, some (.int (nI v)), x4] pc st := x_iinc h hd rfl (nI_1 v) (Or.inr hp) rfl k
theorem ic_5_4 {x0 x1 x2 x3 : Option Value} {v : Nat} (h : Ok X cc own tys fr lo) (hd : decode cc pc = .ok (.iinc 4 1, 3)) (hp : lx_c1 x3 = true) (k : JJ X ws [x0, x1, x2, x3, some (.int (nI (v + 1)))] (pc + 3) st) : JJ X ws [x0, x1, x2, x3, some (.int (nI v))] pc st := x_iinc h hd rfl (nI_1 v) (Or.inr hp) rfl k
theorem ic_6_2 {x0 x1 x3 x4 x5 : Option Value} {v : Nat} (h : Ok X cc own tys fr lo) (hd : decode cc pc = .ok (.iinc 2 1, 3)) (hp : lx_c1 x1 = true) (k : JJ X ws [x0, x1, some (.int (nI (v + 1))), x3, x4, x5] (pc + 3) st) : JJ X ws [x0, x1, some (.int (nI v)), x3, x4, x5] pc st := x_iinc h hd rfl (nI_1 v) (Or.inr hp) rfl k
theorem ic_6_3 {x0 x1 x2 x4 x5 : Option Value} {v : Nat} (h : Ok X cc own tys fr lo) (hd : decode cc pc = .ok (.iinc 3 1, 3)) (hp : lx_c1 x2 = true) (k : JJ X ws [x0, x1, x2, some (.int (nI (v + 1))), x4, x5] (pc + 3) st) : JJ X ws [x0, x1, x2, some (.int (nI v)), x4, x5] pc st := x_iinc h hd rfl (nI_1 v) (Or.inr hp) rfl k
theorem ic_6_5 {x0 x1 x2 x3 x4 : Option Value} {v : Nat} (h : Ok X cc own tys fr lo) (hd : decode cc pc = .ok (.iinc 5 1, 3)) (hp : lx_c1 x4 = true) (k : JJ X ws [x0, x1, x2, x3, x4, some (.int (nI (v + 1)))] (pc + 3) st) : JJ X ws [x0, x1, x2, x3, x4, some (.int (nI v))] pc st := x_iinc h hd rfl (nI_1 v) (Or.inr hp) rfl k
theorem ic_7_2 {x0 x1 x3 x4 x5 x6 : Option Value} {v : Nat} (h : Ok X cc own tys fr lo) (hd : decode cc pc = .ok (.iinc 2 1, 3)) (hp : lx_c1 x1 = true) (k : JJ X ws [x0, x1, some (.int (nI (v + 1))), x3, x4, x5, x6] (pc + 3) st) : JJ X ws [x0, x1, some (.int (nI v)), x3, x4, x5, x6] pc st := x_iinc h hd rfl (nI_1 v) (Or.inr hp) rfl k
theorem ic_7_3 {x0 x1 x2 x4 x5 x6 : Option Value} {v : Nat} (h : Ok X cc own tys fr lo) (hd : decode cc pc = .ok (.iinc 3 1, 3)) (hp : lx_c1 x2 = true) (k : JJ X ws [x0, x1, x2, some (.int (nI (v + 1))), x4, x5, x6] (pc + 3) st) : JJ X ws [x0, x1, x2, some (.int (nI v)), x4, x5, x6] pc st := x_iinc h hd rfl (nI_1 v) (Or.inr hp) rfl k
theorem ic_7_4 {x0 x1 x2 x3 x5 x6 : Option Value} {v : Nat} (h : Ok X cc own tys fr lo) (hd : decode cc pc = .ok (.iinc 4 1, 3)) (hp : lx_c1 x3 = true) (k : JJ X ws [x0, x1, x2, x3, some (.int (nI (v + 1))), x5, x6] (pc + 3) st) : JJ X ws [x0, x1, x2, x3, some (.int (nI v)), x5, x6] pc st := x_iinc h hd rfl (nI_1 v) (Or.inr hp) rfl k
theorem ic_7_6 {x0 x1 x2 x3 x4 x5 : Option Value} {v : Nat} (h : Ok X cc own tys fr lo) (hd : decode cc pc = .ok (.iinc 6 1, 3)) (hp : lx_c1 x5 = true) (k : JJ X ws [x0, x1, x2, x3, x4, x5, some (.int (nI (v + 1)))] (pc + 3) st) : JJ X ws [x0, x1, x2, x3, x4, x5, some (.int (nI v))] pc st := x_iinc h hd rfl (nI_1 v) (Or.inr hp) rfl k
theorem ic_8_5 {x0 x1 x2 x3 x4 x6 x7 : Option Value} {v : Nat} (h : Ok X cc own tys fr lo) (hd : decode cc pc = .ok (.iinc 5 1, 3)) (hp : lx_c1 x4 = true) (k : JJ X ws [x0, x1, x2, x3, x4, some (.int (nI (v + 1))), x6, x7] (pc + 3) st) : JJ X ws [x0, x1, x2, x3, x4, some (.int (nI v)), x6, x7] pc st := x_iinc h hd rfl (nI_1 v) (Or.inr hp) rfl k
theorem ic_8_6 {x0 x1 x2 x3 x4 x5 x7 : Option Value} {v : Nat} (h : Ok X cc own tys fr lo) (hd : decode cc pc = .ok (.iinc 6 1, 3)) (hp : lx_c1 x5 = true) (k : JJ X ws [x0, x1, x2, x3, x4, x5, some (.int (nI (v + 1))), x7] (pc + 3) st) : JJ X ws [x0, x1, x2, x3, x4, x5, some (.int (nI v)), x7] pc st := x_iinc h hd rfl (nI_1 v) (Or.inr hp) rfl k
theorem ic_8_7 {x0 x1 x2 x3 x4 x5 x6 : Option Value} {v : Nat} (h : Ok X cc own tys fr lo) (hd : decode cc pc = .ok (.iinc 7 1, 3)) (hp : lx_c1 x6 = true) (k : JJ X ws [x0, x1, x2, x3, x4, x5, x6, some (.int (nI (v + 1)))] (pc + 3) st) : JJ X ws [x0, x1, x2, x3, x4, x5, x6, some (.int (nI v))] pc st := x_iinc h hd rfl (nI_1 v) (Or.inr hp) rfl k
theorem ic_9_7 {x0 x1 x2 x3 x4 x5 x6 x8 : Option Value} {v : Nat} (h : Ok X cc own tys fr lo) (hd : decode cc pc = .ok (.iinc 7 1, 3)) (hp : lx_c1 x6 = true) (k : JJ X ws [x0, x1, x2, x3, x4, x5, x6, some (.int (nI (v + 1))), x8] (pc + 3) st) : JJ X ws [x0, x1, x2, x3, x4, x5, x6, some (.int (nI v)), x8] pc st := x_iinc h hd rfl (nI_1 v) (Or.inr hp) rfl k
theorem ic_11_5 {x0 x1 x2 x3 x4 x6 x7 x8 x9 x10 : Option Value} {v : Nat} (h : Ok X cc own tys fr lo) (hd : decode cc pc = .ok (.iinc 5 1, 3)) (hp : lx_c1 x4 = true) (k : JJ X ws [x0, x1, x2, x3, x4, some (.int (nI (v + 1))), x6, x7, x8, x9, x10] (pc + 3) st) : JJ X ws [x0, x1, x2, x3, x4, some (.int (nI v)), x6, x7, x8, x9, x10] pc st := x_iinc h hd rfl (nI_1 v) (Or.inr hp) rfl k
theorem is_2_1 {x0 x1 : Option Value} {v : Int32} (h : Ok X cc own tys fr lo) (hd : decode cc pc = .ok (.istore_n 1, 1)) (hp : lx_c1 x0 = true) (k : JJ X ws [x0, some (.int v)] (pc + 1) st) : JJ X ws [x0, x1] pc (.int v :: st) := x_istore_n h hd (show 1 < 2 by decide) (Or.inr hp) rfl k
theorem is_3_1 {x0 x1 x2 : Option Value} {v : Int32} (h : Ok X cc own tys fr lo) (hd : decode cc pc = .ok (.istore_n 1, 1)) (hp : lx_c1 x0 = true) (k : JJ X ws [x0, some (.int v), x2] (pc + 1) st) : JJ X ws [x0, x1, x2] pc (.int v :: st) := x_istore_n h hd (show 1 < 3 by decide) (Or.inr hp) rfl k
theorem is_3_2 {x0 x1 x2 : Option Value} {v : Int32} (h : Ok X cc own tys fr lo) (hd : decode cc pc = .ok (.istore_n 2, 1)) (hp : lx_c1 x1 = true) (k : JJ X ws [x0, x1, some (.int v)] (pc + 1) st) : JJ X ws [x0, x1, x2] pc (.int v :: st) := x_istore_n h hd (show 2 < 3 by decide) (Or.inr hp) rfl k
theorem is_4_1 {x0 x1 x2 x3 : Option Value} {v : Int32} (h : Ok X cc own tys fr lo) (hd : decode cc pc = .ok (.istore_n 1, 1)) (hp : lx_c1 x0 = true) (k : JJ X ws [x0, some (.int v), x2, x3] (pc + 1) st) : JJ X ws [x0, x1, x2, x3] pc (.int v :: st) := x_istore_n h hd (show 1 < 4 by decide) (Or.inr hp) rfl k
theorem is_4_2 {x0 x1 x2 x3 : Option Value} {v : Int32} (h : Ok X cc own tys fr lo) (hd : decode cc pc = .ok (.istore_n 2, 1)) (hp : lx_c1 x1 = true) (k : JJ X ws [x0, x1, some (.int v), x3] (pc + 1) st) : JJ X ws [x0, x1, x2, x3] pc (.int v :: st) := x_istore_n h hd (show 2 < 4 by decide) (Or.inr hp) rfl k
theorem is_4_3 {x0 x1 x2 x3 : Option Value} {v : Int32} (h : Ok X cc own tys fr lo) (hd : decode cc pc = .ok (.istore_n 3, 1)) (hp : lx_c1 x2 = true) (k : JJ X ws [x0, x1, x2, some (.int v)] (pc + 1) st) : JJ X ws [x0, x1, x2, x3] pc (.int v :: st) := x_istore_n h hd (show 3 < 4 by decide) (Or.inr hp) rfl k
theorem is_5_2 {x0 x1 x2 x3 x4 : Option Value} {v : Int32} (h : Ok X cc own tys fr lo) (hd : decode cc pc = .ok (.istore_n 2, 1)) (hp : lx_c1 x1 = true) (k : JJ X ws [x0, x1, some (.int v), x3, x4] (pc + 1) st) : JJ X ws [x0, x1, x2, x3, x4] pc (.int v :: st) := x_istore_n h hd (show 2 < 5 by decide) (Or.inr hp) rfl k
theorem is_5_3 {x0 x1 x2 x3 x4 : Option Value} {v : Int32} (h : Ok X cc own tys fr lo) (hd : decode cc pc = .ok (.istore_n 3, 1)) (hp : lx_c1 x2 = true) (k : JJ X ws [x0, x1, x2, some (.int v), x4] (pc + 1) st) : JJ X ws [x0, x1, x2, x3, x4] pc (.int v :: st) := x_istore_n h hd (show 3 < 5 by decide) (Or.inr hp) rfl k
theorem is_5_4 {x0 x1 x2 x3 x4 : Option Value} {v : Int32} (h : Ok X cc own tys fr lo) (hd : decode cc pc = .ok (.istore 4, 2)) (hp : lx_c1 x3 = true) (k : JJ X ws [x0, x1, x2, x3, some (.int v)] (pc + 2) st) : JJ X ws [x0, x1, x2, x3, x4] pc (.int v :: st) := x_istore h hd (show 4 < 5 by decide) (Or.inr hp) rfl k
theorem is_6_2 {x0 x1 x2 x3 x4 x5 : Option Value} {v : Int32} (h : Ok X cc own tys fr lo) (hd : decode cc pc = .ok (.istore_n 2, 1)) (hp : lx_c1 x1 = true) (k : JJ X ws [x0, x1, some (.int v), x3, x4, x5] (pc + 1) st) : JJ X ws [x0, x1, x2, x3, x4, x5] pc (.int v :: st) := x_istore_n h hd (show 2 < 6 by decide) (Or.inr hp) rfl k
theorem is_6_3 {x0 x1 x2 x3 x4 x5 : Option Value} {v : Int32} (h : Ok X cc own tys fr lo) (hd : decode cc pc = .ok (.istore_n 3, 1)) (hp : lx_c1 x2 = true) (k : JJ X ws [x0, x1, x2, some (.int v), x4, x5] (pc + 1) st) : JJ X ws [x0, x1, x2, x3, x4, x5] pc (.int v :: st) := x_istore_n h hd (show 3 < 6 by decide) (Or.inr hp) rfl k
theorem is_6_4 {x0 x1 x2 x3 x4 x5 : Option Value} {v : Int32} (h : Ok X cc own tys fr lo) (hd : decode cc pc = .ok (.istore 4, 2)) (hp : lx_c1 x3 = true) (k : JJ X ws [x0, x1, x2, x3, some (.int v), x5] (pc + 2) st) : JJ X ws [x0, x1, x2, x3, x4, x5] pc (.int v :: st) := x_istore h hd (show 4 < 6 by decide) (Or.inr hp) rfl k
theorem is_6_5 {x0 x1 x2 x3 x4 x5 : Option Value} {v : Int32} (h : Ok X cc own tys fr lo) (hd : decode cc pc = .ok (.istore 5, 2)) (hp : lx_c1 x4 = true) (k : JJ X ws [x0, x1, x2, x3, x4, some (.int v)] (pc + 2) st) : JJ X ws [x0, x1, x2, x3, x4, x5] pc (.int v :: st) := x_istore h hd (show 5 < 6 by decide) (Or.inr hp) rfl k
theorem is_7_2 {x0 x1 x2 x3 x4 x5 x6 : Option Value} {v : Int32} (h : Ok X cc own tys fr lo) (hd : decode cc pc = .ok (.istore_n 2, 1)) (hp : lx_c1 x1 = true) (k : JJ X ws [x0, x1, some (.int v), x3, x4, x5, x6] (pc + 1) st) : JJ X ws [x0, x1, x2, x3, x4, x5, x6] pc (.int v :: st) := x_istore_n h hd (show 2 < 7 by decide) (Or.inr hp) rfl k
theorem is_7_3 {x0 x1 x2 x3 x4 x5 x6 : Option Value} {v : Int32} (h : Ok X cc own tys fr lo) (hd : decode cc pc = .ok (.istore_n 3, 1)) (hp : lx_c1 x2 = true) (k : JJ X ws [x0, x1, x2, some (.int v), x4, x5, x6] (pc + 1) st) : JJ X ws [x0, x1, x2, x3, x4, x5, x6] pc (.int v :: st) := x_istore_n h hd (show 3 < 7 by decide) (Or.inr hp) rfl k
theorem is_7_4 {x0 x1 x2 x3 x4 x5 x6 : Option Value} {v : Int32} (h : Ok X cc own tys fr lo) (hd : decode cc pc = .ok (.istore 4, 2)) (hp : lx_c1 x3 = true) (k : JJ X ws [x0, x1, x2, x3, some (.int v), x5, x6] (pc + 2) st) : JJ X ws [x0, x1, x2, x3, x4, x5, x6] pc (.int v :: st) := x_istore h hd (show 4 < 7 by decide) (Or.inr hp) rfl k
theorem is_7_5 {x0 x1 x2 x3 x4 x5 x6 : Option Value} {v : Int32} (h : Ok X cc own tys fr lo) (hd : decode cc pc = .ok (.istore 5, 2)) (hp : lx_c1 x4 = true) (k : JJ X ws [x0, x1, x2, x3, x4, some (.int v), x6] (pc + 2) st) : JJ X ws [x0, x1, x2, x3, x4, x5, x6] pc (.int v :: st) := x_istore h hd (show 5 < 7 by decide) (Or.inr hp) rfl k
theorem is_7_6 {x0 x1 x2 x3 x4 x5 x6 : Option Value} {v : Int32} (h : Ok X cc own tys fr lo) (hd : decode cc pc = .ok (.istore 6, 2)) (hp : lx_c1 x5 = true) (k : JJ X ws [x0, x1, x2, x3, x4, x5, some (.int v)] (pc + 2) st) : JJ X ws [x0, x1, x2, x3, x4, x5, x6] pc (.int v :: st) := x_istore h hd (show 6 < 7 by decide) (Or.inr hp) rfl k
theorem is_8_3 {x0 x1 x2 x3 x4 x5 x6 x7 : Option Value} {v : Int32} (h : Ok X cc own tys fr lo) (hd : decode cc pc = .ok (.istore_n 3, 1)) (hp : lx_c1 x2 = true) (k : JJ X ws [x0, x1, x2, some (.int v), x4, x5, x6, x7] (pc + 1) st) : JJ X ws [x0, x1, x2, x3, x4, x5, x6, x7] pc (.int v :: st) := x_istore_n h hd (show 3 < 8 by decide) (Or.inr hp) rfl k
theorem is_8_4 {x0 x1 x2 x3 x4 x5 x6 x7 : Option Value} {v : Int32} (h : Ok X cc own tys fr lo) (hd : decode cc pc = .ok (.istore 4, 2)) (hp : lx_c1 x3 = true) (k : JJ X ws [x0, x1, x2, x3, some (.int v), x5, x6, x7] (pc + 2) st) : JJ X ws [x0, x1, x2, x3, x4, x5, x6, x7] pc (.int v :: st) := x_istore h hd (show 4 < 8 by decide) (Or.inr hp) rfl k
theorem is_8_5 {x0 x1 x2 x3 x4 x5 x6 x7 : Option Value} {v : Int32} (h : Ok X cc own tys fr lo) (hd : decode cc pc = .ok (.istore 5, 2)) (hp : lx_c1 x4 = true) (k : JJ X ws [x0, x1, x2, x3, x4, some (.int v), x6, x7] (pc + 2) st) : JJ X ws [x0, x1, x2, x3, x4, x5, x6, x7] pc (.int v :: st) := x_istore h hd (show 5 < 8 by decide) (Or.inr hp) rfl k
theorem is_8_6 {x0 x1 x2 x3 x4 x5 x6 x7 : Option Value} {v : Int32} (h : Ok X cc own tys fr lo) (hd : decode cc pc = .ok (.istore 6, 2)) (hp : lx_c1 x5 = true) (k : JJ X ws [x0, x1, x2, x3, x4, x5, some (.int v), x7] (pc + 2) st) : JJ X ws [x0, x1, x2, x3, x4, x5, x6, x7] pc (.int v :: st) := x_istore h hd (show 6 < 8 by decide) (Or.inr hp) rfl k
theorem is_8_7 {x0 x1 x2 x3 x4 x5 x6 x7 : Option Value} {v : Int32} (h : Ok X cc own tys fr lo) (hd : decode cc pc = .ok (.istore 7, 2)) (hp : lx_c1 x6 = true) (k : JJ X ws [x0, x1, x2, x3, x4, x5, x6, some (.int v)] (pc + 2) st) : JJ X ws [x0, x1, x2, x3, x4, x5, x6, x7] pc (.int v :: st) := x_istore h hd (show 7 < 8 by decide) (Or.inr hp) rfl k
theorem is_9_4 {x0 x1 x2 x3 x4 x5 x6 x7 x8 : Option Value} {v : Int32} (h : Ok X cc own tys fr lo) (hd : decode cc pc = .ok (.istore 4, 2)) (hp : lx_c1 x3 = true) (k : JJ X ws [x0, x1, x2, x3, some (.int v), x5, x6, x7, x8] (pc + 2) st) : JJ X ws [x0, x1, x2, x3, x4, x5, x6, x7, x8] pc (.int v :: st) := x_istore h hd (show 4 < 9 by decide) (Or.inr hp) rfl k
theorem is_9_5 {x0 x1 x2 x3 x4 x5 x6 x7 x8 : Option Value} {v : Int32} (h : Ok X cc own tys fr lo) (hd : decode cc pc = .ok (.istore 5, 2)) (hp : lx_c1 x4 = true) (k : JJ X ws [x0, x1, x2, x3, x4, some (.int v), x6, x7, x8] (pc + 2) st) : JJ X ws [x0, x1, x2, x3, x4, x5, x6, x7, x8] pc (.int v :: st) := x_istore h hd (show 5 < 9 by decide) (Or.inr hp) rfl k
theorem is_9_6 {x0 x1 x2 x3 x4 x5 x6 x7 x8 : Option Value} {v : Int32} (h : Ok X cc own tys fr lo) (hd : decode cc pc = .ok (.istore 6, 2)) (hp : lx_c1 x5 = true) (k : JJ X ws [x0, x1, x2, x3, x4, x5, some (.int v), x7, x8] (pc + 2) st) : JJ X ws [x0, x1, x2, x3, x4, x5, x6, x7, x8] pc (.int v :: st) := x_istore h hd (show 6 < 9 by decide) (Or.inr hp) rfl k
theorem is_9_7 {x0 x1 x2 x3 x4 x5 x6 x7 x8 : Option Value} {v : Int32} (h : Ok X cc own tys fr lo) (hd : decode cc pc = .ok (.istore 7, 2)) (hp : lx_c1 x6 = true) (k : JJ X ws [x0, x1, x2, x3, x4, x5, x6, some (.int v), x8] (pc + 2) st) : JJ X ws [x0, x1, x2, x3, x4, x5, x6, x7, x8] pc (.int v :: st) := x_istore h hd (show 7 < 9 by decide) (Or.inr hp) rfl k
theorem is_9_8 {x0 x1 x2 x3 x4 x5 x6 x7 x8 : Option Value} {v : Int32} (h : Ok X cc own tys fr lo) (hd : decode cc pc = .ok (.istore 8, 2)) (hp : lx_c1 x7 = true) (k : JJ X ws [x0, x1, x2, x3, x4, x5, x6, x7, some (.int v)] (pc + 2) st) : JJ X ws [x0, x1, x2, x3, x4, x5, x6, x7, x8] pc (.int v :: st) := x_istore h hd (show 8 < 9 by decide) (Or.inr hp) rfl k
theorem is_11_5 {x0 x1 x2 x3 x4 x5 x6 x7 x8 x9 x10 : Option Value} {v : Int32} (h : Ok X cc own tys fr lo) (hd : decode cc pc = .ok (.istore 5, 2)) (hp : lx_c1 x4 = true) (k : JJ X ws [x0, x1, x2, x3, x4, some (.int v), x6, x7, x8, x9, x10] (pc + 2) st) : JJ X ws [x0, x1, x2, x3, x4, x5, x6, x7, x8, x9, x10] pc (.int v :: st) := x_istore h hd (show 5 < 11 by decide) (Or.inr hp) rfl k
theorem is_11_6 {x0 x1 x2 x3 x4 x5 x6 x7 x8 x9 x10 : Option Value} {v : Int32} (h : Ok X cc own tys fr lo) (hd : decode cc pc = .ok (.istore 6, 2)) (hp : lx_c1 x5 = true) (k : JJ X ws [x0, x1, x2, x3, x4, x5, some (.int v), x7, x8, x9, x10] (pc + 2) st) : JJ X ws [x0, x1, x2, x3, x4, x5, x6, x7, x8, x9, x10] pc (.int v :: st) := x_istore h hd (show 6 < 11 by decide) (Or.inr hp) rfl k
theorem is_11_7 {x0 x1 x2 x3 x4 x5 x6 x7 x8 x9 x10 : Option Value} {v : Int32} (h : Ok X cc own tys fr lo) (hd : decode cc pc = .ok (.istore 7, 2)) (hp : lx_c1 x6 = true) (k : JJ X ws [x0, x1, x2, x3, x4, x5, x6, some (.int v), x8, x9, x10] (pc + 2) st) : JJ X ws [x0, x1, x2, x3, x4, x5, x6, x7, x8, x9, x10] pc (.int v :: st) := x_istore h hd (show 7 < 11 by decide) (Or.inr hp) rfl k
theorem is_11_8 {x0 x1 x2 x3 x4 x5 x6 x7 x8 x9 x10 : Option Value} {v : Int32} (h : Ok X cc own tys fr lo) (hd : decode cc pc = .ok (.istore 8, 2)) (hp : lx_c1 x7 = true) (k : JJ X ws [x0, x1, x2, x3, x4, x5, x6, x7, some (.int v), x9, x10] (pc + 2) st) : JJ X ws [x0, x1, x2, x3, x4, x5, x6, x7, x8, x9, x10] pc (.int v :: st) := x_istore h hd (show 8 < 11 by decide) (Or.inr hp) rfl k
theorem is_11_9 {x0 x1 x2 x3 x4 x5 x6 x7 x8 x9 x10 : Option Value} {v : Int32} (h : Ok X cc own tys fr lo) (hd : decode cc pc = .ok (.istore 9, 2)) (hp : lx_c1 x8 = true) (k : JJ X ws [x0, x1, x2, x3, x4, x5, x6, x7, x8, some (.int v), x10] (pc + 2) st) : JJ X ws [x0, x1, x2, x3, x4, x5, x6, x7, x8, x9, x10] pc (.int v :: st) := x_istore h hd (show 9 < 11 by decide) (Or.inr hp) rfl k
theorem is_11_10 {x0 x1 x2 x3 x4 x5 x6 x7 x8 x9 x10 : Option Value} {v : Int32} (h : Ok X cc own tys fr lo) (hd : decode cc pc = .ok (.istore 10, 2)) (hp : lx_c1 x9 = true) (k : JJ X ws [x0, x1, x2, x3, x4, x5, x6, x7, x8, x9, some (.int v)] (pc + 2) st) : JJ X ws [x0, x1, x2, x3, x4, x5, x6, x7, x8, x9, x10] pc (.int v :: st) := x_istore h hd (show 10 < 11 by decide) (Or.inr hp) rfl k
theorem ls_6_3 {x0 x1 x2 x3 x4 x5 : Option Value} {v : Int64} (h : Ok X cc own tys fr lo) (hd : decode cc pc = .ok (.lstore_n 3, 1)) (hp : lx_c1 x2 = true) (k : JJ X ws [x0, x1, x2, some (.long v), none, x5] (pc + 1) st) : JJ X ws [x0, x1, x2, x3, x4, x5] pc (.long v :: st) := x_lstore_n h hd (show 3 + 1 < 6 by decide) (Or.inr hp) rfl k
theorem ls_7_5 {x0 x1 x2 x3 x4 x5 x6 : Option Value} {v : Int64} (h : Ok X cc own tys fr lo) (hd : decode cc pc = .ok (.lstore 5, 2)) (hp : lx_c1 x4 = true) (k : JJ X ws [x0, x1, x2, x3, x4, some (.long v), none] (pc + 2) st) : JJ X ws [x0, x1, x2, x3, x4, x5, x6] pc (.long v :: st) := x_lstore h hd (show 5 + 1 < 7 by decide) (Or.inr hp) rfl k
end GX
end
section
set_option maxRecDepth 100000
abbrev S1 : Type := Int32 × Int32 × (Nat → Int32) × (Nat → Int32) × Int32 × (Nat → Int32) × Int32 × (Nat → Int32) × (Nat → Int32) × (Nat → Int32) × (Nat → Int32)
def w1 (a : Nat → Nat) (d : Nat → ClassId) (u : S1) : va_W := match u with
  | (n, ec, fe, se, rd, te, wt, wE, wP, wX, wY) => [(a 0, .inr (0, [.int n, .int ec, .ref (a 1), .ref (a 2), .int rd, .ref (a 3), .int wt, .ref (a 4), .ref (a 5), .ref (a 6), .ref (a 7)])), (a 1, .inl (d 1, 8, .inl fe)), (a 2, .inl (d 2, 8, .inl se)), (a 3, .inl (d 3, 81, .inl te)), (a 4, .inl (d 4, 12, .inl wE)), (a 5, .inl (d 5, 12, .inl wP)), (a 6, .inl (d 6, 12, .inl wX)), (a 7, .inl (d 7, 12, .inl wY))]
abbrev t1 (d : Nat → ClassId) : List (ClassId × FieldType) := [(d 1, .byte), (d 2, .byte), (d 3, .int), (d 4, .short), (d 5, .int), (d 6, .byte), (d 7, .byte)]
section GC1
variable {X : gx_C} {cc : ByteArray} {fr lo : Nat} {lv : List (Option Value)} {pc : Nat} {st : List Value} {a : Nat → Nat} {d : Nat → ClassId} {n : Int32} {ec : Int32} {fe : Nat → Int32} {se : Nat → Int32} {rd : Int32} {te : Nat → Int32} {wt : Int32} {wE : Nat → Int32} {wP : Nat → Int32} {wX : Nat → Int32} {wY : Nat → Int32}
theorem g1_n (h : Ok X cc RX1 (t1 d) fr lo) (hd : decode cc pc = .ok (.getfield 33, 3)) (k : JJ X (w1 a d (n, ec, fe, se, rd, te, wt, wE, wP, wX, wY)) lv (pc + 3) (.int n :: st)) : JJ X (w1 a d (n, ec, fe, se, rd, te, wt, wE, wP, wX, wY)) lv pc (.ref (a 0) :: st) := x_get (C := RX1) (T := TX1) (N := 11) (ci := 0) h in_X1 0 rfl rfl 0 (by decide) q34 rfl hd k
theorem p1_n {v : Int32} (h : Ok X cc RX1 (t1 d) fr lo) (hd : decode cc pc = .ok (.putfield 33, 3)) (k : JJ X (w1 a d (v, ec, fe, se, rd, te, wt, wE, wP, wX, wY)) lv (pc + 3) st) : JJ X (w1 a d (n, ec, fe, se, rd, te, wt, wE, wP, wX, wY)) lv pc (.int v :: .ref (a 0) :: st) := x_put (C := RX1) (T := TX1) (N := 11) (ci := 0) (ty := .int) (ws' := w1 a d (v, ec, fe, se, rd, te, wt, wE, wP, wX, wY)) h in_X1 tyX1 tyX1_ok nmX1 0 rfl rfl 0 (by decide) q34 rfl (by decide +kernel) rfl rfl (show 0 < 11 by decide) rfl hd k
theorem g1_ec (h : Ok X cc RX1 (t1 d) fr lo) (hd : decode cc pc = .ok (.getfield 37, 3)) (k : JJ X (w1 a d (n, ec, fe, se, rd, te, wt, wE, wP, wX, wY)) lv (pc + 3) (.int ec :: st)) : JJ X (w1 a d (n, ec, fe, se, rd, te, wt, wE, wP, wX, wY)) lv pc (.ref (a 0) :: st) := x_get (C := RX1) (T := TX1) (N := 11) (ci := 0) h in_X1 0 rfl rfl 1 (by decide) q35 rfl hd k
theorem p1_ec {v : Int32} (h : Ok X cc RX1 (t1 d) fr lo) (hd : decode cc pc = .ok (.putfield 37, 3)) (k : JJ X (w1 a d (n, v, fe, se, rd, te, wt, wE, wP, wX, wY)) lv (pc + 3) st) : JJ X (w1 a d (n, ec, fe, se, rd, te, wt, wE, wP, wX, wY)) lv pc (.int v :: .ref (a 0) :: st) := x_put (C := RX1) (T := TX1) (N := 11) (ci := 0) (ty := .int) (ws' := w1 a d (n, v, fe, se, rd, te, wt, wE, wP, wX, wY)) h in_X1 tyX1 tyX1_ok nmX1 0 rfl rfl 1 (by decide) q35 rfl (by decide +kernel) rfl rfl (show 1 < 11 by decide) rfl hd k
theorem g1_fe (h : Ok X cc RX1 (t1 d) fr lo) (hd : decode cc pc = .ok (.getfield 7, 3)) (k : JJ X (w1 a d (n, ec, fe, se, rd, te, wt, wE, wP, wX, wY)) lv (pc + 3) (.ref (a 1) :: st)) : JJ X (w1 a d (n, ec, fe, se, rd, te, wt, wE, wP, wX, wY)) lv pc (.ref (a 0) :: st) := x_get (C := RX1) (T := TX1) (N := 11) (ci := 0) h in_X1 0 rfl rfl 2 (by decide) q36 rfl hd k
theorem l1_fe {j : Nat} (h : Ok X cc RX1 (t1 d) fr lo) (hd : decode cc pc = .ok (.baload, 1)) (hj : j < 8) (k : JJ X (w1 a d (n, ec, fe, se, rd, te, wt, wE, wP, wX, wY)) lv (pc + 1) (.int (fe j) :: st)) : JJ X (w1 a d (n, ec, fe, se, rd, te, wt, wE, wP, wX, wY)) lv pc (.int (nI j) :: .ref (a 1) :: st) := x_bald 1 0 (n := 8) h rfl rfl hd (by decide) hj k
theorem a1_fe {j : Nat} {x : Int32} (v : Int32) (h : Ok X cc RX1 (t1 d) fr lo) (hd : decode cc pc = .ok (.bastore, 1)) (hj : j < 8) (hv : vp_nar .byte x = v) (k : JJ X (w1 a d (n, ec, upd fe j v, se, rd, te, wt, wE, wP, wX, wY)) lv (pc + 1) st) : JJ X (w1 a d (n, ec, fe, se, rd, te, wt, wE, wP, wX, wY)) lv pc (.int x :: .int (nI j) :: .ref (a 1) :: st) := x_bast 1 0 (n := 8) (x := x) h rfl rfl hd (by decide) hj (by rw [hv]; rfl) k
theorem g1_se (h : Ok X cc RX1 (t1 d) fr lo) (hd : decode cc pc = .ok (.getfield 13, 3)) (k : JJ X (w1 a d (n, ec, fe, se, rd, te, wt, wE, wP, wX, wY)) lv (pc + 3) (.ref (a 2) :: st)) : JJ X (w1 a d (n, ec, fe, se, rd, te, wt, wE, wP, wX, wY)) lv pc (.ref (a 0) :: st) := x_get (C := RX1) (T := TX1) (N := 11) (ci := 0) h in_X1 0 rfl rfl 3 (by decide) q37 rfl hd k
theorem l1_se {j : Nat} (h : Ok X cc RX1 (t1 d) fr lo) (hd : decode cc pc = .ok (.baload, 1)) (hj : j < 8) (k : JJ X (w1 a d (n, ec, fe, se, rd, te, wt, wE, wP, wX, wY)) lv (pc + 1) (.int (se j) :: st)) : JJ X (w1 a d (n, ec, fe, se, rd, te, wt, wE, wP, wX, wY)) lv pc (.int (nI j) :: .ref (a 2) :: st) := x_bald 2 1 (n := 8) h rfl rfl hd (by decide) hj k
theorem a1_se {j : Nat} {x : Int32} (v : Int32) (h : Ok X cc RX1 (t1 d) fr lo) (hd : decode cc pc = .ok (.bastore, 1)) (hj : j < 8) (hv : vp_nar .byte x = v) (k : JJ X (w1 a d (n, ec, fe, upd se j v, rd, te, wt, wE, wP, wX, wY)) lv (pc + 1) st) : JJ X (w1 a d (n, ec, fe, se, rd, te, wt, wE, wP, wX, wY)) lv pc (.int x :: .int (nI j) :: .ref (a 2) :: st) := x_bast 2 1 (n := 8) (x := x) h rfl rfl hd (by decide) hj (by rw [hv]; rfl) k
theorem g1_rd (h : Ok X cc RX1 (t1 d) fr lo) (hd : decode cc pc = .ok (.getfield 40, 3)) (k : JJ X (w1 a d (n, ec, fe, se, rd, te, wt, wE, wP, wX, wY)) lv (pc + 3) (.int rd :: st)) : JJ X (w1 a d (n, ec, fe, se, rd, te, wt, wE, wP, wX, wY)) lv pc (.ref (a 0) :: st) := x_get (C := RX1) (T := TX1) (N := 11) (ci := 0) h in_X1 0 rfl rfl 4 (by decide) q38 rfl hd k
theorem p1_rd {v : Int32} (h : Ok X cc RX1 (t1 d) fr lo) (hd : decode cc pc = .ok (.putfield 40, 3)) (hn : narrow .boolean (.int v) = .int v) (hf : fits .boolean (.int v) = true) (k : JJ X (w1 a d (n, ec, fe, se, v, te, wt, wE, wP, wX, wY)) lv (pc + 3) st) : JJ X (w1 a d (n, ec, fe, se, rd, te, wt, wE, wP, wX, wY)) lv pc (.int v :: .ref (a 0) :: st) := x_put (C := RX1) (T := TX1) (N := 11) (ci := 0) (ty := .boolean) (ws' := w1 a d (n, ec, fe, se, v, te, wt, wE, wP, wX, wY)) h in_X1 tyX1 tyX1_ok nmX1 0 rfl rfl 4 (by decide) q38 rfl (by decide +kernel) hn hf (show 4 < 11 by decide) rfl hd k
theorem g1_te (h : Ok X cc RX1 (t1 d) fr lo) (hd : decode cc pc = .ok (.getfield 16, 3)) (k : JJ X (w1 a d (n, ec, fe, se, rd, te, wt, wE, wP, wX, wY)) lv (pc + 3) (.ref (a 3) :: st)) : JJ X (w1 a d (n, ec, fe, se, rd, te, wt, wE, wP, wX, wY)) lv pc (.ref (a 0) :: st) := x_get (C := RX1) (T := TX1) (N := 11) (ci := 0) h in_X1 0 rfl rfl 5 (by decide) q39 rfl hd k
theorem l1_te {j : Nat} (h : Ok X cc RX1 (t1 d) fr lo) (hd : decode cc pc = .ok (.iaload, 1)) (hj : j < 81) (k : JJ X (w1 a d (n, ec, fe, se, rd, te, wt, wE, wP, wX, wY)) lv (pc + 1) (.int (te j) :: st)) : JJ X (w1 a d (n, ec, fe, se, rd, te, wt, wE, wP, wX, wY)) lv pc (.int (nI j) :: .ref (a 3) :: st) := x_iald 3 2 (n := 81) h rfl rfl hd (by decide) hj k
theorem a1_te {j : Nat} {v : Int32} (h : Ok X cc RX1 (t1 d) fr lo) (hd : decode cc pc = .ok (.iastore, 1)) (hj : j < 81) (k : JJ X (w1 a d (n, ec, fe, se, rd, upd te j v, wt, wE, wP, wX, wY)) lv (pc + 1) st) : JJ X (w1 a d (n, ec, fe, se, rd, te, wt, wE, wP, wX, wY)) lv pc (.int v :: .int (nI j) :: .ref (a 3) :: st) := x_iast 3 2 (n := 81) h rfl rfl hd (by decide) hj rfl k
theorem g1_wt (h : Ok X cc RX1 (t1 d) fr lo) (hd : decode cc pc = .ok (.getfield 72, 3)) (k : JJ X (w1 a d (n, ec, fe, se, rd, te, wt, wE, wP, wX, wY)) lv (pc + 3) (.int wt :: st)) : JJ X (w1 a d (n, ec, fe, se, rd, te, wt, wE, wP, wX, wY)) lv pc (.ref (a 0) :: st) := x_get (C := RX1) (T := TX1) (N := 11) (ci := 0) h in_X1 0 rfl rfl 6 (by decide) q40 rfl hd k
theorem p1_wt {v : Int32} (h : Ok X cc RX1 (t1 d) fr lo) (hd : decode cc pc = .ok (.putfield 72, 3)) (k : JJ X (w1 a d (n, ec, fe, se, rd, te, v, wE, wP, wX, wY)) lv (pc + 3) st) : JJ X (w1 a d (n, ec, fe, se, rd, te, wt, wE, wP, wX, wY)) lv pc (.int v :: .ref (a 0) :: st) := x_put (C := RX1) (T := TX1) (N := 11) (ci := 0) (ty := .int) (ws' := w1 a d (n, ec, fe, se, rd, te, v, wE, wP, wX, wY)) h in_X1 tyX1 tyX1_ok nmX1 0 rfl rfl 6 (by decide) q40 rfl (by decide +kernel) rfl rfl (show 6 < 11 by decide) rfl hd k
theorem g1_wE (h : Ok X cc RX1 (t1 d) fr lo) (hd : decode cc pc = .ok (.getfield 20, 3)) (k : JJ X (w1 a d (n, ec, fe, se, rd, te, wt, wE, wP, wX, wY)) lv (pc + 3) (.ref (a 4) :: st)) : JJ X (w1 a d (n, ec, fe, se, rd, te, wt, wE, wP, wX, wY)) lv pc (.ref (a 0) :: st) := x_get (C := RX1) (T := TX1) (N := 11) (ci := 0) h in_X1 0 rfl rfl 7 (by decide) q41 rfl hd k
theorem l1_wE {j : Nat} (h : Ok X cc RX1 (t1 d) fr lo) (hd : decode cc pc = .ok (.saload, 1)) (hj : j < 12) (k : JJ X (w1 a d (n, ec, fe, se, rd, te, wt, wE, wP, wX, wY)) lv (pc + 1) (.int (wE j) :: st)) : JJ X (w1 a d (n, ec, fe, se, rd, te, wt, wE, wP, wX, wY)) lv pc (.int (nI j) :: .ref (a 4) :: st) := x_sald 4 3 (n := 12) h rfl rfl hd (by decide) hj k
theorem a1_wE {j : Nat} {x : Int32} (v : Int32) (h : Ok X cc RX1 (t1 d) fr lo) (hd : decode cc pc = .ok (.sastore, 1)) (hj : j < 12) (hv : vp_nar .short x = v) (k : JJ X (w1 a d (n, ec, fe, se, rd, te, wt, upd wE j v, wP, wX, wY)) lv (pc + 1) st) : JJ X (w1 a d (n, ec, fe, se, rd, te, wt, wE, wP, wX, wY)) lv pc (.int x :: .int (nI j) :: .ref (a 4) :: st) := x_sast 4 3 (n := 12) (x := x) h rfl rfl hd (by decide) hj (by rw [hv]; rfl) k
theorem g1_wP (h : Ok X cc RX1 (t1 d) fr lo) (hd : decode cc pc = .ok (.getfield 24, 3)) (k : JJ X (w1 a d (n, ec, fe, se, rd, te, wt, wE, wP, wX, wY)) lv (pc + 3) (.ref (a 5) :: st)) : JJ X (w1 a d (n, ec, fe, se, rd, te, wt, wE, wP, wX, wY)) lv pc (.ref (a 0) :: st) := x_get (C := RX1) (T := TX1) (N := 11) (ci := 0) h in_X1 0 rfl rfl 8 (by decide) q42 rfl hd k
theorem l1_wP {j : Nat} (h : Ok X cc RX1 (t1 d) fr lo) (hd : decode cc pc = .ok (.iaload, 1)) (hj : j < 12) (k : JJ X (w1 a d (n, ec, fe, se, rd, te, wt, wE, wP, wX, wY)) lv (pc + 1) (.int (wP j) :: st)) : JJ X (w1 a d (n, ec, fe, se, rd, te, wt, wE, wP, wX, wY)) lv pc (.int (nI j) :: .ref (a 5) :: st) := x_iald 5 4 (n := 12) h rfl rfl hd (by decide) hj k
theorem a1_wP {j : Nat} {v : Int32} (h : Ok X cc RX1 (t1 d) fr lo) (hd : decode cc pc = .ok (.iastore, 1)) (hj : j < 12) (k : JJ X (w1 a d (n, ec, fe, se, rd, te, wt, wE, upd wP j v, wX, wY)) lv (pc + 1) st) : JJ X (w1 a d (n, ec, fe, se, rd, te, wt, wE, wP, wX, wY)) lv pc (.int v :: .int (nI j) :: .ref (a 5) :: st) := x_iast 5 4 (n := 12) h rfl rfl hd (by decide) hj rfl k
theorem g1_wX (h : Ok X cc RX1 (t1 d) fr lo) (hd : decode cc pc = .ok (.getfield 27, 3)) (k : JJ X (w1 a d (n, ec, fe, se, rd, te, wt, wE, wP, wX, wY)) lv (pc + 3) (.ref (a 6) :: st)) : JJ X (w1 a d (n, ec, fe, se, rd, te, wt, wE, wP, wX, wY)) lv pc (.ref (a 0) :: st) := x_get (C := RX1) (T := TX1) (N := 11) (ci := 0) h in_X1 0 rfl rfl 9 (by decide) q43 rfl hd k
theorem l1_wX {j : Nat} (h : Ok X cc RX1 (t1 d) fr lo) (hd : decode cc pc = .ok (.baload, 1)) (hj : j < 12) (k : JJ X (w1 a d (n, ec, fe, se, rd, te, wt, wE, wP, wX, wY)) lv (pc + 1) (.int (wX j) :: st)) : JJ X (w1 a d (n, ec, fe, se, rd, te, wt, wE, wP, wX, wY)) lv pc (.int (nI j) :: .ref (a 6) :: st) := x_bald 6 5 (n := 12) h rfl rfl hd (by decide) hj k
theorem a1_wX {j : Nat} {x : Int32} (v : Int32) (h : Ok X cc RX1 (t1 d) fr lo) (hd : decode cc pc = .ok (.bastore, 1)) (hj : j < 12) (hv : vp_nar .byte x = v) (k : JJ X (w1 a d (n, ec, fe, se, rd, te, wt, wE, wP, upd wX j v, wY)) lv (pc + 1) st) : JJ X (w1 a d (n, ec, fe, se, rd, te, wt, wE, wP, wX, wY)) lv pc (.int x :: .int (nI j) :: .ref (a 6) :: st) := x_bast 6 5 (n := 12) (x := x) h rfl rfl hd (by decide) hj (by rw [hv]; rfl) k
theorem g1_wY (h : Ok X cc RX1 (t1 d) fr lo) (hd : decode cc pc = .ok (.getfield 30, 3)) (k : JJ X (w1 a d (n, ec, fe, se, rd, te, wt, wE, wP, wX, wY)) lv (pc + 3) (.ref (a 7) :: st)) : JJ X (w1 a d (n, ec, fe, se, rd, te, wt, wE, wP, wX, wY)) lv pc (.ref (a 0) :: st) := x_get (C := RX1) (T := TX1) (N := 11) (ci := 0) h in_X1 0 rfl rfl 10 (by decide) q44 rfl hd k
theorem l1_wY {j : Nat} (h : Ok X cc RX1 (t1 d) fr lo) (hd : decode cc pc = .ok (.baload, 1)) (hj : j < 12) (k : JJ X (w1 a d (n, ec, fe, se, rd, te, wt, wE, wP, wX, wY)) lv (pc + 1) (.int (wY j) :: st)) : JJ X (w1 a d (n, ec, fe, se, rd, te, wt, wE, wP, wX, wY)) lv pc (.int (nI j) :: .ref (a 7) :: st) := x_bald 7 6 (n := 12) h rfl rfl hd (by decide) hj k
theorem a1_wY {j : Nat} {x : Int32} (v : Int32) (h : Ok X cc RX1 (t1 d) fr lo) (hd : decode cc pc = .ok (.bastore, 1)) (hj : j < 12) (hv : vp_nar .byte x = v) (k : JJ X (w1 a d (n, ec, fe, se, rd, te, wt, wE, wP, wX, upd wY j v)) lv (pc + 1) st) : JJ X (w1 a d (n, ec, fe, se, rd, te, wt, wE, wP, wX, wY)) lv pc (.int x :: .int (nI j) :: .ref (a 7) :: st) := x_bast 7 6 (n := 12) (x := x) h rfl rfl hd (by decide) hj (by rw [hv]; rfl) k
end GC1
abbrev S2 : Type := Int32 × Int32 × (Nat → Int32) × (Nat → Int32) × (Nat → Int32) × (Nat → Int32) × (Nat → Int64)
def w2 (a : Nat → Nat) (d : Nat → ClassId) (u : S2) : va_W := match u with
  | (n, mm, fi, se, la, su, po) => [(a 0, .inr (1, [.int n, .int mm, .ref (a 1), .ref (a 2), .ref (a 3), .ref (a 4), .ref (a 5)])), (a 1, .inl (d 1, 9, .inl fi)), (a 2, .inl (d 2, 9, .inl se)), (a 3, .inl (d 3, 6, .inl la)), (a 4, .inl (d 4, 6, .inl su)), (a 5, .inl (d 5, 81, .inr (.inl po)))]
abbrev t2 (d : Nat → ClassId) : List (ClassId × FieldType) := [(d 1, .int), (d 2, .int), (d 3, .int), (d 4, .int), (d 5, .long)]
section GC2
variable {X : gx_C} {cc : ByteArray} {fr lo : Nat} {lv : List (Option Value)} {pc : Nat} {st : List Value} {a : Nat → Nat} {d : Nat → ClassId} {n : Int32} {mm : Int32} {fi : Nat → Int32} {se : Nat → Int32} {la : Nat → Int32} {su : Nat → Int32} {po : Nat → Int64}
theorem g2_n (h : Ok X cc RX2 (t2 d) fr lo) (hd : decode cc pc = .ok (.getfield 30, 3)) (k : JJ X (w2 a d (n, mm, fi, se, la, su, po)) lv (pc + 3) (.int n :: st)) : JJ X (w2 a d (n, mm, fi, se, la, su, po)) lv pc (.ref (a 0) :: st) := x_get (C := RX2) (T := TX2) (N := 7) (ci := 1) h in_X2 0 rfl rfl 0 (by decide) q162 rfl hd k
theorem p2_n {v : Int32} (h : Ok X cc RX2 (t2 d) fr lo) (hd : decode cc pc = .ok (.putfield 30, 3)) (k : JJ X (w2 a d (v, mm, fi, se, la, su, po)) lv (pc + 3) st) : JJ X (w2 a d (n, mm, fi, se, la, su, po)) lv pc (.int v :: .ref (a 0) :: st) := x_put (C := RX2) (T := TX2) (N := 7) (ci := 1) (ty := .int) (ws' := w2 a d (v, mm, fi, se, la, su, po)) h in_X2 tyX2 tyX2_ok nmX2 0 rfl rfl 0 (by decide) q162 rfl (by decide +kernel) rfl rfl (show 0 < 7 by decide) rfl hd k
theorem g2_mm (h : Ok X cc RX2 (t2 d) fr lo) (hd : decode cc pc = .ok (.getfield 7, 3)) (k : JJ X (w2 a d (n, mm, fi, se, la, su, po)) lv (pc + 3) (.int mm :: st)) : JJ X (w2 a d (n, mm, fi, se, la, su, po)) lv pc (.ref (a 0) :: st) := x_get (C := RX2) (T := TX2) (N := 7) (ci := 1) h in_X2 0 rfl rfl 1 (by decide) q163 rfl hd k
theorem p2_mm {v : Int32} (h : Ok X cc RX2 (t2 d) fr lo) (hd : decode cc pc = .ok (.putfield 7, 3)) (k : JJ X (w2 a d (n, v, fi, se, la, su, po)) lv (pc + 3) st) : JJ X (w2 a d (n, mm, fi, se, la, su, po)) lv pc (.int v :: .ref (a 0) :: st) := x_put (C := RX2) (T := TX2) (N := 7) (ci := 1) (ty := .int) (ws' := w2 a d (n, v, fi, se, la, su, po)) h in_X2 tyX2 tyX2_ok nmX2 0 rfl rfl 1 (by decide) q163 rfl (by decide +kernel) rfl rfl (show 1 < 7 by decide) rfl hd k
theorem g2_fi (h : Ok X cc RX2 (t2 d) fr lo) (hd : decode cc pc = .ok (.getfield 13, 3)) (k : JJ X (w2 a d (n, mm, fi, se, la, su, po)) lv (pc + 3) (.ref (a 1) :: st)) : JJ X (w2 a d (n, mm, fi, se, la, su, po)) lv pc (.ref (a 0) :: st) := x_get (C := RX2) (T := TX2) (N := 7) (ci := 1) h in_X2 0 rfl rfl 2 (by decide) q164 rfl hd k
theorem l2_fi {j : Nat} (h : Ok X cc RX2 (t2 d) fr lo) (hd : decode cc pc = .ok (.iaload, 1)) (hj : j < 9) (k : JJ X (w2 a d (n, mm, fi, se, la, su, po)) lv (pc + 1) (.int (fi j) :: st)) : JJ X (w2 a d (n, mm, fi, se, la, su, po)) lv pc (.int (nI j) :: .ref (a 1) :: st) := x_iald 1 0 (n := 9) h rfl rfl hd (by decide) hj k
theorem a2_fi {j : Nat} {v : Int32} (h : Ok X cc RX2 (t2 d) fr lo) (hd : decode cc pc = .ok (.iastore, 1)) (hj : j < 9) (k : JJ X (w2 a d (n, mm, upd fi j v, se, la, su, po)) lv (pc + 1) st) : JJ X (w2 a d (n, mm, fi, se, la, su, po)) lv pc (.int v :: .int (nI j) :: .ref (a 1) :: st) := x_iast 1 0 (n := 9) h rfl rfl hd (by decide) hj rfl k
theorem g2_se (h : Ok X cc RX2 (t2 d) fr lo) (hd : decode cc pc = .ok (.getfield 17, 3)) (k : JJ X (w2 a d (n, mm, fi, se, la, su, po)) lv (pc + 3) (.ref (a 2) :: st)) : JJ X (w2 a d (n, mm, fi, se, la, su, po)) lv pc (.ref (a 0) :: st) := x_get (C := RX2) (T := TX2) (N := 7) (ci := 1) h in_X2 0 rfl rfl 3 (by decide) q165 rfl hd k
theorem l2_se {j : Nat} (h : Ok X cc RX2 (t2 d) fr lo) (hd : decode cc pc = .ok (.iaload, 1)) (hj : j < 9) (k : JJ X (w2 a d (n, mm, fi, se, la, su, po)) lv (pc + 1) (.int (se j) :: st)) : JJ X (w2 a d (n, mm, fi, se, la, su, po)) lv pc (.int (nI j) :: .ref (a 2) :: st) := x_iald 2 1 (n := 9) h rfl rfl hd (by decide) hj k
theorem a2_se {j : Nat} {v : Int32} (h : Ok X cc RX2 (t2 d) fr lo) (hd : decode cc pc = .ok (.iastore, 1)) (hj : j < 9) (k : JJ X (w2 a d (n, mm, fi, upd se j v, la, su, po)) lv (pc + 1) st) : JJ X (w2 a d (n, mm, fi, se, la, su, po)) lv pc (.int v :: .int (nI j) :: .ref (a 2) :: st) := x_iast 2 1 (n := 9) h rfl rfl hd (by decide) hj rfl k
theorem g2_la (h : Ok X cc RX2 (t2 d) fr lo) (hd : decode cc pc = .ok (.getfield 20, 3)) (k : JJ X (w2 a d (n, mm, fi, se, la, su, po)) lv (pc + 3) (.ref (a 3) :: st)) : JJ X (w2 a d (n, mm, fi, se, la, su, po)) lv pc (.ref (a 0) :: st) := x_get (C := RX2) (T := TX2) (N := 7) (ci := 1) h in_X2 0 rfl rfl 4 (by decide) q166 rfl hd k
theorem l2_la {j : Nat} (h : Ok X cc RX2 (t2 d) fr lo) (hd : decode cc pc = .ok (.iaload, 1)) (hj : j < 6) (k : JJ X (w2 a d (n, mm, fi, se, la, su, po)) lv (pc + 1) (.int (la j) :: st)) : JJ X (w2 a d (n, mm, fi, se, la, su, po)) lv pc (.int (nI j) :: .ref (a 3) :: st) := x_iald 3 2 (n := 6) h rfl rfl hd (by decide) hj k
theorem a2_la {j : Nat} {v : Int32} (h : Ok X cc RX2 (t2 d) fr lo) (hd : decode cc pc = .ok (.iastore, 1)) (hj : j < 6) (k : JJ X (w2 a d (n, mm, fi, se, upd la j v, su, po)) lv (pc + 1) st) : JJ X (w2 a d (n, mm, fi, se, la, su, po)) lv pc (.int v :: .int (nI j) :: .ref (a 3) :: st) := x_iast 3 2 (n := 6) h rfl rfl hd (by decide) hj rfl k
theorem g2_su (h : Ok X cc RX2 (t2 d) fr lo) (hd : decode cc pc = .ok (.getfield 23, 3)) (k : JJ X (w2 a d (n, mm, fi, se, la, su, po)) lv (pc + 3) (.ref (a 4) :: st)) : JJ X (w2 a d (n, mm, fi, se, la, su, po)) lv pc (.ref (a 0) :: st) := x_get (C := RX2) (T := TX2) (N := 7) (ci := 1) h in_X2 0 rfl rfl 5 (by decide) q167 rfl hd k
theorem l2_su {j : Nat} (h : Ok X cc RX2 (t2 d) fr lo) (hd : decode cc pc = .ok (.iaload, 1)) (hj : j < 6) (k : JJ X (w2 a d (n, mm, fi, se, la, su, po)) lv (pc + 1) (.int (su j) :: st)) : JJ X (w2 a d (n, mm, fi, se, la, su, po)) lv pc (.int (nI j) :: .ref (a 4) :: st) := x_iald 4 3 (n := 6) h rfl rfl hd (by decide) hj k
theorem a2_su {j : Nat} {v : Int32} (h : Ok X cc RX2 (t2 d) fr lo) (hd : decode cc pc = .ok (.iastore, 1)) (hj : j < 6) (k : JJ X (w2 a d (n, mm, fi, se, la, upd su j v, po)) lv (pc + 1) st) : JJ X (w2 a d (n, mm, fi, se, la, su, po)) lv pc (.int v :: .int (nI j) :: .ref (a 4) :: st) := x_iast 4 3 (n := 6) h rfl rfl hd (by decide) hj rfl k
theorem g2_po (h : Ok X cc RX2 (t2 d) fr lo) (hd : decode cc pc = .ok (.getfield 26, 3)) (k : JJ X (w2 a d (n, mm, fi, se, la, su, po)) lv (pc + 3) (.ref (a 5) :: st)) : JJ X (w2 a d (n, mm, fi, se, la, su, po)) lv pc (.ref (a 0) :: st) := x_get (C := RX2) (T := TX2) (N := 7) (ci := 1) h in_X2 0 rfl rfl 6 (by decide) q168 rfl hd k
theorem l2_po {j : Nat} (h : Ok X cc RX2 (t2 d) fr lo) (hd : decode cc pc = .ok (.laload, 1)) (hj : j < 81) (k : JJ X (w2 a d (n, mm, fi, se, la, su, po)) lv (pc + 1) (.long (po j) :: st)) : JJ X (w2 a d (n, mm, fi, se, la, su, po)) lv pc (.int (nI j) :: .ref (a 5) :: st) := x_lald 5 4 (n := 81) h rfl rfl hd (by decide) hj k
theorem a2_po {j : Nat} {v : Int64} (h : Ok X cc RX2 (t2 d) fr lo) (hd : decode cc pc = .ok (.lastore, 1)) (hj : j < 81) (k : JJ X (w2 a d (n, mm, fi, se, la, su, vp_updL po j v)) lv (pc + 1) st) : JJ X (w2 a d (n, mm, fi, se, la, su, po)) lv pc (.long v :: .int (nI j) :: .ref (a 5) :: st) := x_last 5 4 (n := 81) h rfl rfl hd (by decide) hj rfl k
end GC2
end
section
set_option maxRecDepth 100000
/-! CONTRACTS: Mi (answers an int or a truth value), Mv (nothing), Ml (a long): a method of an object whose whole world is wf a d u; it comes back with the world wf a d u', 'post answer u'', makes nothing, changes nothing else -/
section CT
variable {S : Type}
abbrev ct_P (wf : (Nat → Nat) → (Nat → ClassId) → S → va_W) (tf : (Nat → ClassId) → List (ClassId × FieldType)) (D : va_G) (a : Nat → Nat) (d : Nat → ClassId) (sz : Nat) (u : S) : State → Prop := fun U => U.heap.size = sz ∧ va_P D vwCl (wf a d u) U.heap ∧ va_K D vwCl (tf d) U ∧ va_D (fun _ => True) (wf a d u)
abbrev ct_B (wf : (Nat → Nat) → (Nat → ClassId) → S → va_W) (tf : (Nat → ClassId) → List (ClassId × FieldType)) (D : va_G) (a : Nat → Nat) (d : Nat → ClassId) (sz : Nat) (u : S) : S → State → Prop := fun u' t => va_P D vwCl (wf a d u') t.heap ∧ va_K D vwCl (tf d) t ∧ va_D (va_A (wf a d u) sz) (wf a d u')
def Mi (wf : (Nat → Nat) → (Nat → ClassId) → S → va_W) (tf : (Nat → ClassId) → List (ClassId × FieldType)) (y : MethodName) (cb : ByteArray) (nL : Nat) (rty : FieldType) (fr lo : Nat) (av : List Value) (u : S) (post : Int32 → S → Prop) : Prop :=
  ∀ (l : Launch) (D : va_G) (a : Nat → Nat) (d : Nat → ClassId) (sz : Nat), Met l y (ws_ y cb nL (some rty)) ({ frames := fr, cells := 0, slots := 0, locals := lo }) (va_Pc (.ref (a 0) :: av) (ct_P wf tf D a d sz u)) (va_Qi post (ct_B wf tf D a d sz u) (va_A (wf a d u) sz)) 0 0 (va_A (wf a d u) sz)
def Ml (wf : (Nat → Nat) → (Nat → ClassId) → S → va_W) (tf : (Nat → ClassId) → List (ClassId × FieldType)) (y : MethodName) (cb : ByteArray) (nL : Nat) (fr lo : Nat) (av : List Value) (u : S) (post : Int64 → S → Prop) : Prop :=
  ∀ (l : Launch) (D : va_G) (a : Nat → Nat) (d : Nat → ClassId) (sz : Nat), Met l y (ws_ y cb nL (some .long)) ({ frames := fr, cells := 0, slots := 0, locals := lo }) (va_Pc (.ref (a 0) :: av) (ct_P wf tf D a d sz u)) (va_Ql post (ct_B wf tf D a d sz u) (va_A (wf a d u) sz)) 0 0 (va_A (wf a d u) sz)
def Mv (wf : (Nat → Nat) → (Nat → ClassId) → S → va_W) (tf : (Nat → ClassId) → List (ClassId × FieldType)) (y : MethodName) (cb : ByteArray) (nL : Nat) (fr lo : Nat) (av : List Value) (u : S) (post : S → Prop) : Prop :=
  ∀ (l : Launch) (D : va_G) (a : Nat → Nat) (d : Nat → ClassId) (sz : Nat), Met l y (ws_ y cb nL none) ({ frames := fr, cells := 0, slots := 0, locals := lo }) (va_Pc (.ref (a 0) :: av) (ct_P wf tf D a d sz u)) (va_Qv post (ct_B wf tf D a d sz u) (va_A (wf a d u) sz)) 0 0 (va_A (wf a d u) sz)
variable {wf : (Nat → Nat) → (Nat → ClassId) → S → va_W} {tf : (Nat → ClassId) → List (ClassId × FieldType)} {y : MethodName} {cb : ByteArray} {nL : Nat} {rty : FieldType} {fr lo : Nat} {av : List Value} {u : S}
theorem ct_cat {a0 : Nat} (hc : av.all (fun v => v.category == 1) = true) : ∀ v ∈ (Value.ref a0 :: av), v.category = 1 := by
  intro v hv
  rcases List.mem_cons.mp hv with e | e
  · rw [e]; rfl
  · have := List.all_eq_true.mp hc v e
    exact eq_of_beq this
theorem Mi.start {post : Int32 → S → Prop} (hy : plainName y.cls = true) (hc : av.all (fun v => v.category == 1) = true) (hlen : (av.length + 1).ble nL = true)
    (body : ∀ (X : gx_C) (a : Nat → Nat) (d : Nat → ClassId), Ok X cb y.cls (tf d) fr lo → (∀ (u' : S) (lv : List (Option Value)) (pc : Nat) (r : Int32), decode cb pc = .ok (.ireturn, 1) → narrow rty (.int r) = .int r → post r u' → JJ X (wf a d u') lv pc [.int r]) → JJ X (wf a d u) (some (.ref (a 0)) :: (av.map some ++ List.replicate (nL - (av.length + 1)) none)) 0 []) : Mi wf tf y cb nL rty fr lo av u post := by
  intro l D a d sz
  refine Met.ofW (cc := cb) (maxL := nL) (ret := some rty) hy rfl ?_
  intro p e s m args below meth c s₁ B hml hv
  obtain ⟨rfl, hsz, hP, hK, hD0⟩ := hv
  have hts := atoms_spec (ws := ws_ y cb nL (some rty)) B.pre
  have hts : ∀ w ∈ lw_all, w.before _ s = true := fun w h => hts w (List.mem_cons_of_mem _ h)
  have hown : s.vm.findClass y.cls = some m.cls := findClass_of_methodNamed B.named
  subst hsz
  have hD := hD0.self (sz := s.heap.size)
  rw [lg_entry_eq]
  have hl := lx_entry (.ref (a 0) :: av) (n := nL) (ct_cat hc) (Nat.le_of_ble_eq_true hlen)
  refine (body (p, l, e, _, s, m, _, below, meth, c, _, D, va_A (wf a d u) s.heap.size, nL, 0, 0) a d ⟨B.exec, B.bytes, hml, hown, hts, hK, fun q h => Or.inr h, Nat.le_refl _, Nat.le_refl _, Nat.le_refl _, Nat.le_refl _⟩ ?_) s.heap [] _ hP hD va_S.rf hl
  intro u' lv pc r hd hn hp H locs ls hP hD hS hl
  exact W.zret (v := r) B.exec B.bytes B.returns hn (fun t ht hW => ⟨⟨r, u', rfl, hp, by rw [ht]; exact hP, va_K.moved hW.alike hK, hD⟩, hS.F ht⟩) hS.2.2 hd B.notSynchronized
theorem Ml.start {post : Int64 → S → Prop} (hy : plainName y.cls = true) (hc : av.all (fun v => v.category == 1) = true) (hlen : (av.length + 1).ble nL = true)
    (body : ∀ (X : gx_C) (a : Nat → Nat) (d : Nat → ClassId), Ok X cb y.cls (tf d) fr lo → (∀ (u' : S) (lv : List (Option Value)) (pc : Nat) (r : Int64), decode cb pc = .ok (.lreturn, 1) → post r u' → JJ X (wf a d u') lv pc [.long r]) → JJ X (wf a d u) (some (.ref (a 0)) :: (av.map some ++ List.replicate (nL - (av.length + 1)) none)) 0 []) : Ml wf tf y cb nL fr lo av u post := by
  intro l D a d sz
  refine Met.ofW (cc := cb) (maxL := nL) (ret := some .long) hy rfl ?_
  intro p e s m args below meth c s₁ B hml hv
  obtain ⟨rfl, hsz, hP, hK, hD0⟩ := hv
  have hts := atoms_spec (ws := ws_ y cb nL (some .long)) B.pre
  have hts : ∀ w ∈ lw_all, w.before _ s = true := fun w h => hts w (List.mem_cons_of_mem _ h)
  have hown : s.vm.findClass y.cls = some m.cls := findClass_of_methodNamed B.named
  subst hsz
  have hD := hD0.self (sz := s.heap.size)
  rw [lg_entry_eq]
  have hl := lx_entry (.ref (a 0) :: av) (n := nL) (ct_cat hc) (Nat.le_of_ble_eq_true hlen)
  refine (body (p, l, e, _, s, m, _, below, meth, c, _, D, va_A (wf a d u) s.heap.size, nL, 0, 0) a d ⟨B.exec, B.bytes, hml, hown, hts, hK, fun q h => Or.inr h, Nat.le_refl _, Nat.le_refl _, Nat.le_refl _, Nat.le_refl _⟩ ?_) s.heap [] _ hP hD va_S.rf hl
  intro u' lv pc r hd hp H locs ls hP hD hS hl
  exact W.lret (v := r) B.exec B.bytes B.returns (fun t ht hW => ⟨⟨r, u', rfl, hp, by rw [ht]; exact hP, va_K.moved hW.alike hK, hD⟩, hS.F ht⟩) hS.2.2 hd B.notSynchronized
theorem Mv.start {post : S → Prop} (hy : plainName y.cls = true) (hc : av.all (fun v => v.category == 1) = true) (hlen : (av.length + 1).ble nL = true)
    (body : ∀ (X : gx_C) (a : Nat → Nat) (d : Nat → ClassId), Ok X cb y.cls (tf d) fr lo → (∀ (u' : S) (lv : List (Option Value)) (pc : Nat), decode cb pc = .ok (.return_, 1) → post u' → JJ X (wf a d u') lv pc []) → JJ X (wf a d u) (some (.ref (a 0)) :: (av.map some ++ List.replicate (nL - (av.length + 1)) none)) 0 []) : Mv wf tf y cb nL fr lo av u post := by
  intro l D a d sz
  refine Met.ofW (cc := cb) (maxL := nL) (ret := none) hy rfl ?_
  intro p e s m args below meth c s₁ B hml hv
  obtain ⟨rfl, hsz, hP, hK, hD0⟩ := hv
  have hts := atoms_spec (ws := ws_ y cb nL none) B.pre
  have hts : ∀ w ∈ lw_all, w.before _ s = true := fun w h => hts w (List.mem_cons_of_mem _ h)
  have hown : s.vm.findClass y.cls = some m.cls := findClass_of_methodNamed B.named
  subst hsz
  have hD := hD0.self (sz := s.heap.size)
  rw [lg_entry_eq]
  have hl := lx_entry (.ref (a 0) :: av) (n := nL) (ct_cat hc) (Nat.le_of_ble_eq_true hlen)
  refine (body (p, l, e, _, s, m, _, below, meth, c, _, D, va_A (wf a d u) s.heap.size, nL, 0, 0) a d ⟨B.exec, B.bytes, hml, hown, hts, hK, fun q h => Or.inr h, Nat.le_refl _, Nat.le_refl _, Nat.le_refl _, Nat.le_refl _⟩ ?_) s.heap [] _ hP hD va_S.rf hl
  intro u' lv pc hd hp H locs ls hP hD hS hl
  exact W.vret B.exec B.bytes B.returns (fun t ht hW => ⟨⟨u', rfl, hp, by rw [ht]; exact hP, va_K.moved hW.alike hK, hD⟩, hS.F ht⟩) hS.2.2 hd B.notSynchronized
variable {X : gx_C} {cc : ByteArray} {own : String} {fr2 lo2 nL2 idx pc ci N : Nat} {lv : List (Option Value)} {st rest : List Value} {a : Nat → Nat} {d : Nat → ClassId} {C : String} {T : u_T} {fs : List Value}
theorem x_callI {post : Int32 → S → Prop} (h : Ok X cc own (tf d) fr lo) (hM : Mi wf tf y cb nL2 rty fr2 lo2 av u post) (hd : decode cc pc = .ok (.invokevirtual idx, 3)) (hG : GoodIn lw_all (wsV own idx C y (ws_ y cb nL2 (some rty)))) (he : (wf a d u)[0]? = some (a 0, .inr (ci, fs))) (hc : vwCl[ci]? = some (C, T, N))
    (hy : y.cls = C ∧ y.cls ≠ "java/lang/invoke/MethodHandle" ∧ y.cls ≠ "java/lang/invoke/VarHandle" ∧ (parseMethodDescriptor y.desc).map (fun q => q.parameters.length) = some av.length) (hfr : fr2 + 1 ≤ fr) (hlo : 8 + (nL2 + 11) + lo2 ≤ lo) (hst : (rest.map fun v => v.category).sum ≤ 8) (hs : st = av.reverse ++ .ref (a 0) :: rest)
    (k : ∀ (r : Int32) (u' : S), post r u' → JJ X (wf a d u') lv (pc + 3) (.int r :: rest)) : JJ X (wf a d u) lv pc st := by
  subst hs
  obtain ⟨p, l, e, R, s, m, args, below, meth, c, Q, D, A, nL, cells, slots⟩ := X
  intro H locs ls hP hD hS hl
  obtain ⟨hx, hb, hml, hown, hts, hK, hA, hRf, hRl, hRc, hRs⟩ := h
  have hFc : ∀ q, va_A (wf a d u) H.size q → A q := by
    intro q hq
    rcases hq with ⟨k, e, hk⟩ | hq
    · exact hD.2 k (q, e) hk
    · exact hA q (Nat.le_trans hS.1 hq)
  refine va_calli (va_runV (As := av) (rest := rest) ⟨hx, hb, hml, hown, hts⟩ (hM l D a d H.size) (cwV av.length hts hG rfl rfl rfl hy ⟨Nat.le_trans hfr hRf, Nat.le_trans hlo hRl⟩) ⟨fun a U g mk q => by obtain ⟨q0, q1, qP, qK, qD⟩ := q; exact ⟨q0, q1, qP, va_K.moved (u := U) (U := U.calling g mk a) (Vm.Alike.refl U.vm) qK, qD⟩, va_recv hK hP (ci := ci) (q0 := 0) hc he, fun U hU hW => ⟨rfl, by rw [hU], by rw [hU]; exact hP, va_K.moved hW.alike hK, hD.weaken (fun _ _ _ _ => trivial)⟩⟩ rfl rfl hl.2.1 rfl (lv_room hst) hd ⟨hRc, hRs⟩) hS (fun q _ h => hFc q h) hFc (fun r u' t H1 locs1 ht hvm hw hB hz hk hS1 => ?_)
  obtain ⟨hP1, hK1, hD1⟩ := hB
  exact k r u' hw H1 locs1 ls (by rw [← ht]; exact hP1) (hD1.weaken (fun _ q _ hq => hFc q.1 hq)) hS1 hl
theorem x_callL {post : Int64 → S → Prop} (h : Ok X cc own (tf d) fr lo) (hM : Ml wf tf y cb nL2 fr2 lo2 av u post) (hd : decode cc pc = .ok (.invokevirtual idx, 3)) (hG : GoodIn lw_all (wsV own idx C y (ws_ y cb nL2 (some .long)))) (he : (wf a d u)[0]? = some (a 0, .inr (ci, fs))) (hc : vwCl[ci]? = some (C, T, N))
    (hy : y.cls = C ∧ y.cls ≠ "java/lang/invoke/MethodHandle" ∧ y.cls ≠ "java/lang/invoke/VarHandle" ∧ (parseMethodDescriptor y.desc).map (fun q => q.parameters.length) = some av.length) (hfr : fr2 + 1 ≤ fr) (hlo : 8 + (nL2 + 11) + lo2 ≤ lo) (hst : (rest.map fun v => v.category).sum ≤ 8) (hs : st = av.reverse ++ .ref (a 0) :: rest)
    (k : ∀ (r : Int64) (u' : S), post r u' → JJ X (wf a d u') lv (pc + 3) (.long r :: rest)) : JJ X (wf a d u) lv pc st := by
  subst hs
  obtain ⟨p, l, e, R, s, m, args, below, meth, c, Q, D, A, nL, cells, slots⟩ := X
  intro H locs ls hP hD hS hl
  obtain ⟨hx, hb, hml, hown, hts, hK, hA, hRf, hRl, hRc, hRs⟩ := h
  have hFc : ∀ q, va_A (wf a d u) H.size q → A q := by
    intro q hq
    rcases hq with ⟨k, e, hk⟩ | hq
    · exact hD.2 k (q, e) hk
    · exact hA q (Nat.le_trans hS.1 hq)
  refine va_calll (va_runV (As := av) (rest := rest) ⟨hx, hb, hml, hown, hts⟩ (hM l D a d H.size) (cwV av.length hts hG rfl rfl rfl hy ⟨Nat.le_trans hfr hRf, Nat.le_trans hlo hRl⟩) ⟨fun a U g mk q => by obtain ⟨q0, q1, qP, qK, qD⟩ := q; exact ⟨q0, q1, qP, va_K.moved (u := U) (U := U.calling g mk a) (Vm.Alike.refl U.vm) qK, qD⟩, va_recv hK hP (ci := ci) (q0 := 0) hc he, fun U hU hW => ⟨rfl, by rw [hU], by rw [hU]; exact hP, va_K.moved hW.alike hK, hD.weaken (fun _ _ _ _ => trivial)⟩⟩ rfl rfl hl.2.1 rfl (lv_room hst) hd ⟨hRc, hRs⟩) hS (fun q _ h => hFc q h) hFc (fun r u' t H1 locs1 ht hvm hw hB hz hk hS1 => ?_)
  obtain ⟨hP1, hK1, hD1⟩ := hB
  exact k r u' hw H1 locs1 ls (by rw [← ht]; exact hP1) (hD1.weaken (fun _ q _ hq => hFc q.1 hq)) hS1 hl
theorem x_callV {post : S → Prop} (h : Ok X cc own (tf d) fr lo) (hM : Mv wf tf y cb nL2 fr2 lo2 av u post) (hd : decode cc pc = .ok (.invokevirtual idx, 3)) (hG : GoodIn lw_all (wsV own idx C y (ws_ y cb nL2 none))) (he : (wf a d u)[0]? = some (a 0, .inr (ci, fs))) (hc : vwCl[ci]? = some (C, T, N))
    (hy : y.cls = C ∧ y.cls ≠ "java/lang/invoke/MethodHandle" ∧ y.cls ≠ "java/lang/invoke/VarHandle" ∧ (parseMethodDescriptor y.desc).map (fun q => q.parameters.length) = some av.length) (hfr : fr2 + 1 ≤ fr) (hlo : 8 + (nL2 + 11) + lo2 ≤ lo) (hst : (rest.map fun v => v.category).sum ≤ 8) (hs : st = av.reverse ++ .ref (a 0) :: rest)
    (k : ∀ (u' : S), post u' → JJ X (wf a d u') lv (pc + 3) rest) : JJ X (wf a d u) lv pc st := by
  subst hs
  obtain ⟨p, l, e, R, s, m, args, below, meth, c, Q, D, A, nL, cells, slots⟩ := X
  intro H locs ls hP hD hS hl
  obtain ⟨hx, hb, hml, hown, hts, hK, hA, hRf, hRl, hRc, hRs⟩ := h
  have hFc : ∀ q, va_A (wf a d u) H.size q → A q := by
    intro q hq
    rcases hq with ⟨k, e, hk⟩ | hq
    · exact hD.2 k (q, e) hk
    · exact hA q (Nat.le_trans hS.1 hq)
  refine va_callv (va_runV (As := av) (rest := rest) ⟨hx, hb, hml, hown, hts⟩ (hM l D a d H.size) (cwV av.length hts hG rfl rfl rfl hy ⟨Nat.le_trans hfr hRf, Nat.le_trans hlo hRl⟩) ⟨fun a U g mk q => by obtain ⟨q0, q1, qP, qK, qD⟩ := q; exact ⟨q0, q1, qP, va_K.moved (u := U) (U := U.calling g mk a) (Vm.Alike.refl U.vm) qK, qD⟩, va_recv hK hP (ci := ci) (q0 := 0) hc he, fun U hU hW => ⟨rfl, by rw [hU], by rw [hU]; exact hP, va_K.moved hW.alike hK, hD.weaken (fun _ _ _ _ => trivial)⟩⟩ rfl rfl hl.2.1 rfl (lv_room hst) hd ⟨hRc, hRs⟩) hS (fun q _ h => hFc q h) hFc (fun u' t H1 locs1 ht hvm hw hB hz hk hS1 => ?_)
  obtain ⟨hP1, hK1, hD1⟩ := hB
  exact k u' hw H1 locs1 ls (by rw [← ht]; exact hP1) (hD1.weaken (fun _ q _ hq => hFc q.1 hq)) hS1 hl
end CT
abbrev C1_acyclic (av : List Value) (u : S1) (post : Int32 → S1 → Prop) : Prop := Mi w1 t1 yX1_acyclic cX1_acyclic 1 .int 5 132 av u post
abbrev C1_add (av : List Value) (u : S1) (post : Int32 → S1 → Prop) : Prop := Mi w1 t1 yX1_add cX1_add 3 .int 0 0 av u post
abbrev C1_coefficient (av : List Value) (u : S1) (post : Int32 → S1 → Prop) : Prop := Mi w1 t1 yX1_coefficient cX1_coefficient 3 .int 4 105 av u post
abbrev C1_colourings (av : List Value) (u : S1) (post : Int32 → S1 → Prop) : Prop := Mi w1 t1 yX1_colourings cX1_colourings 5 .int 5 132 av u post
abbrev C1_drawnTogether (av : List Value) (u : S1) (post : Int32 → S1 → Prop) : Prop := Mi w1 t1 yX1_drawnTogether cX1_drawnTogether 7 .int 1 28 av u post
theorem G1_drawnTogether : GoodIn lw_all (wsV RX1 52 RX1 yX1_drawnTogether (ws_ yX1_drawnTogether cX1_drawnTogether 7 (some .int))) := lw_V q96 q98 qs1 q24 q99
theorem Y1_drawnTogether : yX1_drawnTogether.cls = RX1 ∧ yX1_drawnTogether.cls ≠ "java/lang/invoke/MethodHandle" ∧ yX1_drawnTogether.cls ≠ "java/lang/invoke/VarHandle" ∧ (parseMethodDescriptor yX1_drawnTogether.desc).map (fun q => q.parameters.length) = some 2 := by decide +kernel
theorem k1_drawnTogether {X : gx_C} {cc : ByteArray} {fr lo pc : Nat} {lv : List (Option Value)} {rest : List Value} {a : Nat → Nat} {d : Nat → ClassId} {v0 v1 : Value} {u : S1} {post : Int32 → S1 → Prop} (h : Ok X cc RX1 (t1 d) fr lo) (hd : decode cc pc = .ok (.invokevirtual 52, 3)) (hM : C1_drawnTogether [v0, v1] u post) (hfr : 2 ≤ fr) (hlo : 54 ≤ lo) (hst : (rest.map fun v => v.category).sum ≤ 8) (k : ∀ (r : Int32) (u' : S1), post r u' → JJ X (w1 a d u') lv (pc + 3) (.int r :: rest)) : JJ X (w1 a d u) lv pc (v1 :: v0 :: .ref (a 0) :: rest) := by
  obtain ⟨_, _, _, _, _, _, _, _, _, _, _⟩ := u
  exact x_callI (ci := 0) h hM hd G1_drawnTogether rfl rfl Y1_drawnTogether hfr hlo hst rfl k
abbrev C1_drop (av : List Value) (u : S1) (post : Int32 → S1 → Prop) : Prop := Mi w1 t1 yX1_drop cX1_drop 3 .int 0 0 av u post
theorem G1_drop : GoodIn lw_all (wsV RX1 44 RX1 yX1_drop (ws_ yX1_drop cX1_drop 3 (some .int))) := lw_V q83 q76 q77 q24 q78
theorem Y1_drop : yX1_drop.cls = RX1 ∧ yX1_drop.cls ≠ "java/lang/invoke/MethodHandle" ∧ yX1_drop.cls ≠ "java/lang/invoke/VarHandle" ∧ (parseMethodDescriptor yX1_drop.desc).map (fun q => q.parameters.length) = some 1 := by decide +kernel
theorem k1_drop {X : gx_C} {cc : ByteArray} {fr lo pc : Nat} {lv : List (Option Value)} {rest : List Value} {a : Nat → Nat} {d : Nat → ClassId} {v0 : Value} {u : S1} {post : Int32 → S1 → Prop} (h : Ok X cc RX1 (t1 d) fr lo) (hd : decode cc pc = .ok (.invokevirtual 44, 3)) (hM : C1_drop [v0] u post) (hfr : 1 ≤ fr) (hlo : 22 ≤ lo) (hst : (rest.map fun v => v.category).sum ≤ 8) (k : ∀ (r : Int32) (u' : S1), post r u' → JJ X (w1 a d u') lv (pc + 3) (.int r :: rest)) : JJ X (w1 a d u) lv pc (v0 :: .ref (a 0) :: rest) := by
  obtain ⟨_, _, _, _, _, _, _, _, _, _, _⟩ := u
  exact x_callI (ci := 0) h hM hd G1_drop rfl rfl Y1_drop hfr hlo hst rfl k
abbrev C1_edges (av : List Value) (u : S1) (post : Int32 → S1 → Prop) : Prop := Mi w1 t1 yX1_edges cX1_edges 1 .int 0 0 av u post
abbrev C1_findPolynomial (av : List Value) (u : S1) (post : S1 → Prop) : Prop := Mv w1 t1 yX1_findPolynomial cX1_findPolynomial 2 3 84 av u post
theorem G1_findPolynomial : GoodIn lw_all (wsV RX1 56 RX1 yX1_findPolynomial (ws_ yX1_findPolynomial cX1_findPolynomial 2 none)) := lw_V q112 q114 qs4 q24 q115
theorem Y1_findPolynomial : yX1_findPolynomial.cls = RX1 ∧ yX1_findPolynomial.cls ≠ "java/lang/invoke/MethodHandle" ∧ yX1_findPolynomial.cls ≠ "java/lang/invoke/VarHandle" ∧ (parseMethodDescriptor yX1_findPolynomial.desc).map (fun q => q.parameters.length) = some 0 := by decide +kernel
theorem k1_findPolynomial {X : gx_C} {cc : ByteArray} {fr lo pc : Nat} {lv : List (Option Value)} {rest : List Value} {a : Nat → Nat} {d : Nat → ClassId} {u : S1} {post : S1 → Prop} (h : Ok X cc RX1 (t1 d) fr lo) (hd : decode cc pc = .ok (.invokevirtual 56, 3)) (hM : C1_findPolynomial [] u post) (hfr : 4 ≤ fr) (hlo : 105 ≤ lo) (hst : (rest.map fun v => v.category).sum ≤ 8) (k : ∀ (u' : S1), post u' → JJ X (w1 a d u') lv (pc + 3) rest) : JJ X (w1 a d u) lv pc (.ref (a 0) :: rest) := by
  obtain ⟨_, _, _, _, _, _, _, _, _, _, _⟩ := u
  exact x_callV (ci := 0) h hM hd G1_findPolynomial rfl rfl Y1_findPolynomial hfr hlo hst rfl k
abbrev C1_flows (av : List Value) (u : S1) (post : Int32 → S1 → Prop) : Prop := Mi w1 t1 yX1_flows cX1_flows 4 .int 5 132 av u post
abbrev C1_forests (av : List Value) (u : S1) (post : Int32 → S1 → Prop) : Prop := Mi w1 t1 yX1_forests cX1_forests 1 .int 5 132 av u post
abbrev C1_joined (av : List Value) (u : S1) (post : Int32 → S1 → Prop) : Prop := Mi w1 t1 yX1_joined cX1_joined 9 .int 0 0 av u post
theorem G1_joined : GoodIn lw_all (wsV RX1 68 RX1 yX1_joined (ws_ yX1_joined cX1_joined 9 (some .int))) := lw_V q104 q106 qs3 q24 q107
theorem Y1_joined : yX1_joined.cls = RX1 ∧ yX1_joined.cls ≠ "java/lang/invoke/MethodHandle" ∧ yX1_joined.cls ≠ "java/lang/invoke/VarHandle" ∧ (parseMethodDescriptor yX1_joined.desc).map (fun q => q.parameters.length) = some 3 := by decide +kernel
theorem k1_joined {X : gx_C} {cc : ByteArray} {fr lo pc : Nat} {lv : List (Option Value)} {rest : List Value} {a : Nat → Nat} {d : Nat → ClassId} {v0 v1 v2 : Value} {u : S1} {post : Int32 → S1 → Prop} (h : Ok X cc RX1 (t1 d) fr lo) (hd : decode cc pc = .ok (.invokevirtual 68, 3)) (hM : C1_joined [v0, v1, v2] u post) (hfr : 1 ≤ fr) (hlo : 28 ≤ lo) (hst : (rest.map fun v => v.category).sum ≤ 8) (k : ∀ (r : Int32) (u' : S1), post r u' → JJ X (w1 a d u') lv (pc + 3) (.int r :: rest)) : JJ X (w1 a d u) lv pc (v2 :: v1 :: v0 :: .ref (a 0) :: rest) := by
  obtain ⟨_, _, _, _, _, _, _, _, _, _, _⟩ := u
  exact x_callI (ci := 0) h hM hd G1_joined rfl rfl Y1_joined hfr hlo hst rfl k
abbrev C1_merge (av : List Value) (u : S1) (post : Int32 → S1 → Prop) : Prop := Mi w1 t1 yX1_merge cX1_merge 7 .int 1 22 av u post
abbrev C1_parts (av : List Value) (u : S1) (post : Int32 → S1 → Prop) : Prop := Mi w1 t1 yX1_parts cX1_parts 4 .int 2 54 av u post
theorem G1_parts : GoodIn lw_all (wsV RX1 62 RX1 yX1_parts (ws_ yX1_parts cX1_parts 4 (some .int))) := lw_V q144 q89 q90 q24 q91
theorem Y1_parts : yX1_parts.cls = RX1 ∧ yX1_parts.cls ≠ "java/lang/invoke/MethodHandle" ∧ yX1_parts.cls ≠ "java/lang/invoke/VarHandle" ∧ (parseMethodDescriptor yX1_parts.desc).map (fun q => q.parameters.length) = some 0 := by decide +kernel
theorem k1_parts {X : gx_C} {cc : ByteArray} {fr lo pc : Nat} {lv : List (Option Value)} {rest : List Value} {a : Nat → Nat} {d : Nat → ClassId} {u : S1} {post : Int32 → S1 → Prop} (h : Ok X cc RX1 (t1 d) fr lo) (hd : decode cc pc = .ok (.invokevirtual 62, 3)) (hM : C1_parts [] u post) (hfr : 3 ≤ fr) (hlo : 77 ≤ lo) (hst : (rest.map fun v => v.category).sum ≤ 8) (k : ∀ (r : Int32) (u' : S1), post r u' → JJ X (w1 a d u') lv (pc + 3) (.int r :: rest)) : JJ X (w1 a d u) lv pc (.ref (a 0) :: rest) := by
  obtain ⟨_, _, _, _, _, _, _, _, _, _, _⟩ := u
  exact x_callI (ci := 0) h hM hd G1_parts rfl rfl Y1_parts hfr hlo hst rfl k
abbrev C1_pointOf (av : List Value) (u : S1) (post : Int32 → S1 → Prop) : Prop := Mi w1 t1 yX1_pointOf cX1_pointOf 3 .int 0 0 av u post
theorem G1_pointOf : GoodIn lw_all (wsV RX1 65 RX1 yX1_pointOf (ws_ yX1_pointOf cX1_pointOf 3 (some .int))) := lw_V q100 q102 qs2 q24 q103
theorem Y1_pointOf : yX1_pointOf.cls = RX1 ∧ yX1_pointOf.cls ≠ "java/lang/invoke/MethodHandle" ∧ yX1_pointOf.cls ≠ "java/lang/invoke/VarHandle" ∧ (parseMethodDescriptor yX1_pointOf.desc).map (fun q => q.parameters.length) = some 2 := by decide +kernel
theorem k1_pointOf {X : gx_C} {cc : ByteArray} {fr lo pc : Nat} {lv : List (Option Value)} {rest : List Value} {a : Nat → Nat} {d : Nat → ClassId} {v0 v1 : Value} {u : S1} {post : Int32 → S1 → Prop} (h : Ok X cc RX1 (t1 d) fr lo) (hd : decode cc pc = .ok (.invokevirtual 65, 3)) (hM : C1_pointOf [v0, v1] u post) (hfr : 1 ≤ fr) (hlo : 22 ≤ lo) (hst : (rest.map fun v => v.category).sum ≤ 8) (k : ∀ (r : Int32) (u' : S1), post r u' → JJ X (w1 a d u') lv (pc + 3) (.int r :: rest)) : JJ X (w1 a d u) lv pc (v1 :: v0 :: .ref (a 0) :: rest) := by
  obtain ⟨_, _, _, _, _, _, _, _, _, _, _⟩ := u
  exact x_callI (ci := 0) h hM hd G1_pointOf rfl rfl Y1_pointOf hfr hlo hst rfl k
abbrev C1_push (av : List Value) (u : S1) (post : S1 → Prop) : Prop := Mv w1 t1 yX1_push cX1_push 5 0 0 av u post
theorem G1_push : GoodIn lw_all (wsV RX1 75 RX1 yX1_push (ws_ yX1_push cX1_push 5 none)) := lw_V q116 q118 qs5 q24 q119
theorem Y1_push : yX1_push.cls = RX1 ∧ yX1_push.cls ≠ "java/lang/invoke/MethodHandle" ∧ yX1_push.cls ≠ "java/lang/invoke/VarHandle" ∧ (parseMethodDescriptor yX1_push.desc).map (fun q => q.parameters.length) = some 4 := by decide +kernel
theorem k1_push {X : gx_C} {cc : ByteArray} {fr lo pc : Nat} {lv : List (Option Value)} {rest : List Value} {a : Nat → Nat} {d : Nat → ClassId} {v0 v1 v2 v3 : Value} {u : S1} {post : S1 → Prop} (h : Ok X cc RX1 (t1 d) fr lo) (hd : decode cc pc = .ok (.invokevirtual 75, 3)) (hM : C1_push [v0, v1, v2, v3] u post) (hfr : 1 ≤ fr) (hlo : 24 ≤ lo) (hst : (rest.map fun v => v.category).sum ≤ 8) (k : ∀ (u' : S1), post u' → JJ X (w1 a d u') lv (pc + 3) rest) : JJ X (w1 a d u) lv pc (v3 :: v2 :: v1 :: v0 :: .ref (a 0) :: rest) := by
  obtain ⟨_, _, _, _, _, _, _, _, _, _, _⟩ := u
  exact x_callV (ci := 0) h hM hd G1_push rfl rfl Y1_push hfr hlo hst rfl k
abbrev C1_spanning (av : List Value) (u : S1) (post : Int32 → S1 → Prop) : Prop := Mi w1 t1 yX1_spanning cX1_spanning 1 .int 5 132 av u post
abbrev C1_startPoints (av : List Value) (u : S1) (post : Int32 → S1 → Prop) : Prop := Mi w1 t1 yX1_startPoints cX1_startPoints 3 .int 0 0 av u post
theorem G1_startPoints : GoodIn lw_all (wsV RX1 48 RX1 yX1_startPoints (ws_ yX1_startPoints cX1_startPoints 3 (some .int))) := lw_V q92 q94 qs0 q24 q95
theorem Y1_startPoints : yX1_startPoints.cls = RX1 ∧ yX1_startPoints.cls ≠ "java/lang/invoke/MethodHandle" ∧ yX1_startPoints.cls ≠ "java/lang/invoke/VarHandle" ∧ (parseMethodDescriptor yX1_startPoints.desc).map (fun q => q.parameters.length) = some 0 := by decide +kernel
theorem k1_startPoints {X : gx_C} {cc : ByteArray} {fr lo pc : Nat} {lv : List (Option Value)} {rest : List Value} {a : Nat → Nat} {d : Nat → ClassId} {u : S1} {post : Int32 → S1 → Prop} (h : Ok X cc RX1 (t1 d) fr lo) (hd : decode cc pc = .ok (.invokevirtual 48, 3)) (hM : C1_startPoints [] u post) (hfr : 1 ≤ fr) (hlo : 22 ≤ lo) (hst : (rest.map fun v => v.category).sum ≤ 8) (k : ∀ (r : Int32) (u' : S1), post r u' → JJ X (w1 a d u') lv (pc + 3) (.int r :: rest)) : JJ X (w1 a d u) lv pc (.ref (a 0) :: rest) := by
  obtain ⟨_, _, _, _, _, _, _, _, _, _, _⟩ := u
  exact x_callI (ci := 0) h hM hd G1_startPoints rfl rfl Y1_startPoints hfr hlo hst rfl k
abbrev C1_trees (av : List Value) (u : S1) (post : Int32 → S1 → Prop) : Prop := Mi w1 t1 yX1_trees cX1_trees 1 .int 5 132 av u post
abbrev C1_valueAt (av : List Value) (u : S1) (post : Int32 → S1 → Prop) : Prop := Mi w1 t1 yX1_valueAt cX1_valueAt 8 .int 4 105 av u post
theorem G1_valueAt : GoodIn lw_all (wsV RX1 59 RX1 yX1_valueAt (ws_ yX1_valueAt cX1_valueAt 8 (some .int))) := lw_V q128 q130 qs7 q24 q131
theorem Y1_valueAt : yX1_valueAt.cls = RX1 ∧ yX1_valueAt.cls ≠ "java/lang/invoke/MethodHandle" ∧ yX1_valueAt.cls ≠ "java/lang/invoke/VarHandle" ∧ (parseMethodDescriptor yX1_valueAt.desc).map (fun q => q.parameters.length) = some 2 := by decide +kernel
theorem k1_valueAt {X : gx_C} {cc : ByteArray} {fr lo pc : Nat} {lv : List (Option Value)} {rest : List Value} {a : Nat → Nat} {d : Nat → ClassId} {v0 v1 : Value} {u : S1} {post : Int32 → S1 → Prop} (h : Ok X cc RX1 (t1 d) fr lo) (hd : decode cc pc = .ok (.invokevirtual 59, 3)) (hM : C1_valueAt [v0, v1] u post) (hfr : 5 ≤ fr) (hlo : 132 ≤ lo) (hst : (rest.map fun v => v.category).sum ≤ 8) (k : ∀ (r : Int32) (u' : S1), post r u' → JJ X (w1 a d u') lv (pc + 3) (.int r :: rest)) : JJ X (w1 a d u) lv pc (v1 :: v0 :: .ref (a 0) :: rest) := by
  obtain ⟨_, _, _, _, _, _, _, _, _, _, _⟩ := u
  exact x_callI (ci := 0) h hM hd G1_valueAt rfl rfl Y1_valueAt hfr hlo hst rfl k
abbrev C1_workOff (av : List Value) (u : S1) (post : S1 → Prop) : Prop := Mv w1 t1 yX1_workOff cX1_workOff 11 2 54 av u post
theorem G1_workOff : GoodIn lw_all (wsV RX1 79 RX1 yX1_workOff (ws_ yX1_workOff cX1_workOff 11 none)) := lw_V q120 q122 qs6 q24 q123
theorem Y1_workOff : yX1_workOff.cls = RX1 ∧ yX1_workOff.cls ≠ "java/lang/invoke/MethodHandle" ∧ yX1_workOff.cls ≠ "java/lang/invoke/VarHandle" ∧ (parseMethodDescriptor yX1_workOff.desc).map (fun q => q.parameters.length) = some 4 := by decide +kernel
theorem k1_workOff {X : gx_C} {cc : ByteArray} {fr lo pc : Nat} {lv : List (Option Value)} {rest : List Value} {a : Nat → Nat} {d : Nat → ClassId} {v0 v1 v2 v3 : Value} {u : S1} {post : S1 → Prop} (h : Ok X cc RX1 (t1 d) fr lo) (hd : decode cc pc = .ok (.invokevirtual 79, 3)) (hM : C1_workOff [v0, v1, v2, v3] u post) (hfr : 3 ≤ fr) (hlo : 84 ≤ lo) (hst : (rest.map fun v => v.category).sum ≤ 8) (k : ∀ (u' : S1), post u' → JJ X (w1 a d u') lv (pc + 3) rest) : JJ X (w1 a d u) lv pc (v3 :: v2 :: v1 :: v0 :: .ref (a 0) :: rest) := by
  obtain ⟨_, _, _, _, _, _, _, _, _, _, _⟩ := u
  exact x_callV (ci := 0) h hM hd G1_workOff rfl rfl Y1_workOff hfr hlo hst rfl k
abbrev C2_acyclic (av : List Value) (u : S2) (post : Int32 → S2 → Prop) : Prop := Mi w2 t2 yX2_acyclic cX2_acyclic 3 .int 2 47 av u post
abbrev C2_add (av : List Value) (u : S2) (post : Int32 → S2 → Prop) : Prop := Mi w2 t2 yX2_add cX2_add 3 .int 1 21 av u post
abbrev C2_addTerm (av : List Value) (u : S2) (post : S2 → Prop) : Prop := Mv w2 t2 yX2_addTerm cX2_addTerm 7 1 25 av u post
theorem G2_addTerm : GoodIn lw_all (wsV RX2 69 RX2 yX2_addTerm (ws_ yX2_addTerm cX2_addTerm 7 none)) := lw_V q242 q244 qs16 q25 q245
theorem Y2_addTerm : yX2_addTerm.cls = RX2 ∧ yX2_addTerm.cls ≠ "java/lang/invoke/MethodHandle" ∧ yX2_addTerm.cls ≠ "java/lang/invoke/VarHandle" ∧ (parseMethodDescriptor yX2_addTerm.desc).map (fun q => q.parameters.length) = some 2 := by decide +kernel
theorem k2_addTerm {X : gx_C} {cc : ByteArray} {fr lo pc : Nat} {lv : List (Option Value)} {rest : List Value} {a : Nat → Nat} {d : Nat → ClassId} {v0 v1 : Value} {u : S2} {post : S2 → Prop} (h : Ok X cc RX2 (t2 d) fr lo) (hd : decode cc pc = .ok (.invokevirtual 69, 3)) (hM : C2_addTerm [v0, v1] u post) (hfr : 2 ≤ fr) (hlo : 51 ≤ lo) (hst : (rest.map fun v => v.category).sum ≤ 8) (k : ∀ (u' : S2), post u' → JJ X (w2 a d u') lv (pc + 3) rest) : JJ X (w2 a d u) lv pc (v1 :: v0 :: .ref (a 0) :: rest) := by
  obtain ⟨_, _, _, _, _, _, _⟩ := u
  exact x_callV (ci := 1) h hM hd G2_addTerm rfl rfl Y2_addTerm hfr hlo hst rfl k
abbrev C2_all (av : List Value) (u : S2) (post : Int32 → S2 → Prop) : Prop := Mi w2 t2 yX2_all cX2_all 1 .int 0 0 av u post
theorem G2_all : GoodIn lw_all (wsV RX2 55 RX2 yX2_all (ws_ yX2_all cX2_all 1 (some .int))) := lw_V q214 q216 qs10 q25 q217
theorem Y2_all : yX2_all.cls = RX2 ∧ yX2_all.cls ≠ "java/lang/invoke/MethodHandle" ∧ yX2_all.cls ≠ "java/lang/invoke/VarHandle" ∧ (parseMethodDescriptor yX2_all.desc).map (fun q => q.parameters.length) = some 0 := by decide +kernel
theorem k2_all {X : gx_C} {cc : ByteArray} {fr lo pc : Nat} {lv : List (Option Value)} {rest : List Value} {a : Nat → Nat} {d : Nat → ClassId} {u : S2} {post : Int32 → S2 → Prop} (h : Ok X cc RX2 (t2 d) fr lo) (hd : decode cc pc = .ok (.invokevirtual 55, 3)) (hM : C2_all [] u post) (hfr : 1 ≤ fr) (hlo : 20 ≤ lo) (hst : (rest.map fun v => v.category).sum ≤ 8) (k : ∀ (r : Int32) (u' : S2), post r u' → JJ X (w2 a d u') lv (pc + 3) (.int r :: rest)) : JJ X (w2 a d u) lv pc (.ref (a 0) :: rest) := by
  obtain ⟨_, _, _, _, _, _, _⟩ := u
  exact x_callI (ci := 1) h hM hd G2_all rfl rfl Y2_all hfr hlo hst rfl k
abbrev C2_balanced (av : List Value) (u : S2) (post : Int32 → S2 → Prop) : Prop := Mi w2 t2 yX2_balanced cX2_balanced 5 .boolean 1 25 av u post
theorem G2_balanced : GoodIn lw_all (wsV RX2 85 RX2 yX2_balanced (ws_ yX2_balanced cX2_balanced 5 (some .boolean))) := lw_V q282 q284 qs21 q25 q285
theorem Y2_balanced : yX2_balanced.cls = RX2 ∧ yX2_balanced.cls ≠ "java/lang/invoke/MethodHandle" ∧ yX2_balanced.cls ≠ "java/lang/invoke/VarHandle" ∧ (parseMethodDescriptor yX2_balanced.desc).map (fun q => q.parameters.length) = some 2 := by decide +kernel
theorem k2_balanced {X : gx_C} {cc : ByteArray} {fr lo pc : Nat} {lv : List (Option Value)} {rest : List Value} {a : Nat → Nat} {d : Nat → ClassId} {v0 v1 : Value} {u : S2} {post : Int32 → S2 → Prop} (h : Ok X cc RX2 (t2 d) fr lo) (hd : decode cc pc = .ok (.invokevirtual 85, 3)) (hM : C2_balanced [v0, v1] u post) (hfr : 2 ≤ fr) (hlo : 49 ≤ lo) (hst : (rest.map fun v => v.category).sum ≤ 8) (k : ∀ (r : Int32) (u' : S2), post r u' → JJ X (w2 a d u') lv (pc + 3) (.int r :: rest)) : JJ X (w2 a d u) lv pc (v1 :: v0 :: .ref (a 0) :: rest) := by
  obtain ⟨_, _, _, _, _, _, _⟩ := u
  exact x_callI (ci := 1) h hM hd G2_balanced rfl rfl Y2_balanced hfr hlo hst rfl k
abbrev C2_choose (av : List Value) (u : S2) (post : Int64 → S2 → Prop) : Prop := Ml w2 t2 yX2_choose cX2_choose 6 0 0 av u post
theorem G2_choose : GoodIn lw_all (wsV RX2 59 RX2 yX2_choose (ws_ yX2_choose cX2_choose 6 (some .long))) := lw_V q246 q248 qs17 q25 q249
theorem Y2_choose : yX2_choose.cls = RX2 ∧ yX2_choose.cls ≠ "java/lang/invoke/MethodHandle" ∧ yX2_choose.cls ≠ "java/lang/invoke/VarHandle" ∧ (parseMethodDescriptor yX2_choose.desc).map (fun q => q.parameters.length) = some 2 := by decide +kernel
theorem k2_choose {X : gx_C} {cc : ByteArray} {fr lo pc : Nat} {lv : List (Option Value)} {rest : List Value} {a : Nat → Nat} {d : Nat → ClassId} {v0 v1 : Value} {u : S2} {post : Int64 → S2 → Prop} (h : Ok X cc RX2 (t2 d) fr lo) (hd : decode cc pc = .ok (.invokevirtual 59, 3)) (hM : C2_choose [v0, v1] u post) (hfr : 1 ≤ fr) (hlo : 25 ≤ lo) (hst : (rest.map fun v => v.category).sum ≤ 8) (k : ∀ (r : Int64) (u' : S2), post r u' → JJ X (w2 a d u') lv (pc + 3) (.long r :: rest)) : JJ X (w2 a d u) lv pc (v1 :: v0 :: .ref (a 0) :: rest) := by
  obtain ⟨_, _, _, _, _, _, _⟩ := u
  exact x_callL (ci := 1) h hM hd G2_choose rfl rfl Y2_choose hfr hlo hst rfl k
abbrev C2_coefficient (av : List Value) (u : S2) (post : Int32 → S2 → Prop) : Prop := Mi w2 t2 yX2_coefficient cX2_coefficient 8 .int 4 89 av u post
abbrev C2_colourings (av : List Value) (u : S2) (post : Int32 → S2 → Prop) : Prop := Mi w2 t2 yX2_colourings cX2_colourings 7 .int 1 25 av u post
abbrev C2_count (av : List Value) (u : S2) (post : Int32 → S2 → Prop) : Prop := Mi w2 t2 yX2_count cX2_count 8 .int 4 89 av u post
theorem G2_count : GoodIn lw_all (wsV RX2 73 RX2 yX2_count (ws_ yX2_count cX2_count 8 (some .int))) := lw_V q254 q256 qs18 q25 q257
theorem Y2_count : yX2_count.cls = RX2 ∧ yX2_count.cls ≠ "java/lang/invoke/MethodHandle" ∧ yX2_count.cls ≠ "java/lang/invoke/VarHandle" ∧ (parseMethodDescriptor yX2_count.desc).map (fun q => q.parameters.length) = some 2 := by decide +kernel
theorem k2_count {X : gx_C} {cc : ByteArray} {fr lo pc : Nat} {lv : List (Option Value)} {rest : List Value} {a : Nat → Nat} {d : Nat → ClassId} {v0 v1 : Value} {u : S2} {post : Int32 → S2 → Prop} (h : Ok X cc RX2 (t2 d) fr lo) (hd : decode cc pc = .ok (.invokevirtual 73, 3)) (hM : C2_count [v0, v1] u post) (hfr : 5 ≤ fr) (hlo : 116 ≤ lo) (hst : (rest.map fun v => v.category).sum ≤ 8) (k : ∀ (r : Int32) (u' : S2), post r u' → JJ X (w2 a d u') lv (pc + 3) (.int r :: rest)) : JJ X (w2 a d u) lv pc (v1 :: v0 :: .ref (a 0) :: rest) := by
  obtain ⟨_, _, _, _, _, _, _⟩ := u
  exact x_callI (ci := 1) h hM hd G2_count rfl rfl Y2_count hfr hlo hst rfl k
abbrev C2_digit (av : List Value) (u : S2) (post : Int32 → S2 → Prop) : Prop := Mi w2 t2 yX2_digit cX2_digit 6 .int 0 0 av u post
theorem G2_digit : GoodIn lw_all (wsV RX2 81 RX2 yX2_digit (ws_ yX2_digit cX2_digit 6 (some .int))) := lw_V q274 q276 qs20 q25 q277
theorem Y2_digit : yX2_digit.cls = RX2 ∧ yX2_digit.cls ≠ "java/lang/invoke/MethodHandle" ∧ yX2_digit.cls ≠ "java/lang/invoke/VarHandle" ∧ (parseMethodDescriptor yX2_digit.desc).map (fun q => q.parameters.length) = some 3 := by decide +kernel
theorem k2_digit {X : gx_C} {cc : ByteArray} {fr lo pc : Nat} {lv : List (Option Value)} {rest : List Value} {a : Nat → Nat} {d : Nat → ClassId} {v0 v1 v2 : Value} {u : S2} {post : Int32 → S2 → Prop} (h : Ok X cc RX2 (t2 d) fr lo) (hd : decode cc pc = .ok (.invokevirtual 81, 3)) (hM : C2_digit [v0, v1, v2] u post) (hfr : 1 ≤ fr) (hlo : 25 ≤ lo) (hst : (rest.map fun v => v.category).sum ≤ 8) (k : ∀ (r : Int32) (u' : S2), post r u' → JJ X (w2 a d u') lv (pc + 3) (.int r :: rest)) : JJ X (w2 a d u) lv pc (v2 :: v1 :: v0 :: .ref (a 0) :: rest) := by
  obtain ⟨_, _, _, _, _, _, _⟩ := u
  exact x_callI (ci := 1) h hM hd G2_digit rfl rfl Y2_digit hfr hlo hst rfl k
abbrev C2_drop (av : List Value) (u : S2) (post : Int32 → S2 → Prop) : Prop := Mi w2 t2 yX2_drop cX2_drop 3 .int 1 21 av u post
theorem G2_drop : GoodIn lw_all (wsV RX2 40 RX2 yX2_drop (ws_ yX2_drop cX2_drop 3 (some .int))) := lw_V q205 q194 q195 q25 q196
theorem Y2_drop : yX2_drop.cls = RX2 ∧ yX2_drop.cls ≠ "java/lang/invoke/MethodHandle" ∧ yX2_drop.cls ≠ "java/lang/invoke/VarHandle" ∧ (parseMethodDescriptor yX2_drop.desc).map (fun q => q.parameters.length) = some 1 := by decide +kernel
theorem k2_drop {X : gx_C} {cc : ByteArray} {fr lo pc : Nat} {lv : List (Option Value)} {rest : List Value} {a : Nat → Nat} {d : Nat → ClassId} {v0 : Value} {u : S2} {post : Int32 → S2 → Prop} (h : Ok X cc RX2 (t2 d) fr lo) (hd : decode cc pc = .ok (.invokevirtual 40, 3)) (hM : C2_drop [v0] u post) (hfr : 2 ≤ fr) (hlo : 43 ≤ lo) (hst : (rest.map fun v => v.category).sum ≤ 8) (k : ∀ (r : Int32) (u' : S2), post r u' → JJ X (w2 a d u') lv (pc + 3) (.int r :: rest)) : JJ X (w2 a d u) lv pc (v0 :: .ref (a 0) :: rest) := by
  obtain ⟨_, _, _, _, _, _, _⟩ := u
  exact x_callI (ci := 1) h hM hd G2_drop rfl rfl Y2_drop hfr hlo hst rfl k
abbrev C2_edges (av : List Value) (u : S2) (post : Int32 → S2 → Prop) : Prop := Mi w2 t2 yX2_edges cX2_edges 1 .int 0 0 av u post
abbrev C2_flows (av : List Value) (u : S2) (post : Int32 → S2 → Prop) : Prop := Mi w2 t2 yX2_flows cX2_flows 5 .int 2 49 av u post
abbrev C2_forests (av : List Value) (u : S2) (post : Int32 → S2 → Prop) : Prop := Mi w2 t2 yX2_forests cX2_forests 1 .int 5 116 av u post
abbrev C2_in (av : List Value) (u : S2) (post : Int32 → S2 → Prop) : Prop := Mi w2 t2 yX2_in cX2_in 3 .boolean 0 0 av u post
theorem G2_in : GoodIn lw_all (wsV RX2 44 RX2 yX2_in (ws_ yX2_in cX2_in 3 (some .boolean))) := lw_V q226 q228 qs13 q25 q229
theorem Y2_in : yX2_in.cls = RX2 ∧ yX2_in.cls ≠ "java/lang/invoke/MethodHandle" ∧ yX2_in.cls ≠ "java/lang/invoke/VarHandle" ∧ (parseMethodDescriptor yX2_in.desc).map (fun q => q.parameters.length) = some 2 := by decide +kernel
theorem k2_in {X : gx_C} {cc : ByteArray} {fr lo pc : Nat} {lv : List (Option Value)} {rest : List Value} {a : Nat → Nat} {d : Nat → ClassId} {v0 v1 : Value} {u : S2} {post : Int32 → S2 → Prop} (h : Ok X cc RX2 (t2 d) fr lo) (hd : decode cc pc = .ok (.invokevirtual 44, 3)) (hM : C2_in [v0, v1] u post) (hfr : 1 ≤ fr) (hlo : 22 ≤ lo) (hst : (rest.map fun v => v.category).sum ≤ 8) (k : ∀ (r : Int32) (u' : S2), post r u' → JJ X (w2 a d u') lv (pc + 3) (.int r :: rest)) : JJ X (w2 a d u) lv pc (v1 :: v0 :: .ref (a 0) :: rest) := by
  obtain ⟨_, _, _, _, _, _, _⟩ := u
  exact x_callI (ci := 1) h hM hd G2_in rfl rfl Y2_in hfr hlo hst rfl k
abbrev C2_isEdge (av : List Value) (u : S2) (post : Int32 → S2 → Prop) : Prop := Mi w2 t2 yX2_isEdge cX2_isEdge 2 .boolean 0 0 av u post
theorem G2_isEdge : GoodIn lw_all (wsV RX2 37 RX2 yX2_isEdge (ws_ yX2_isEdge cX2_isEdge 2 (some .boolean))) := lw_V q197 q199 qs9 q25 q200
theorem Y2_isEdge : yX2_isEdge.cls = RX2 ∧ yX2_isEdge.cls ≠ "java/lang/invoke/MethodHandle" ∧ yX2_isEdge.cls ≠ "java/lang/invoke/VarHandle" ∧ (parseMethodDescriptor yX2_isEdge.desc).map (fun q => q.parameters.length) = some 1 := by decide +kernel
theorem k2_isEdge {X : gx_C} {cc : ByteArray} {fr lo pc : Nat} {lv : List (Option Value)} {rest : List Value} {a : Nat → Nat} {d : Nat → ClassId} {v0 : Value} {u : S2} {post : Int32 → S2 → Prop} (h : Ok X cc RX2 (t2 d) fr lo) (hd : decode cc pc = .ok (.invokevirtual 37, 3)) (hM : C2_isEdge [v0] u post) (hfr : 1 ≤ fr) (hlo : 21 ≤ lo) (hst : (rest.map fun v => v.category).sum ≤ 8) (k : ∀ (r : Int32) (u' : S2), post r u' → JJ X (w2 a d u') lv (pc + 3) (.int r :: rest)) : JJ X (w2 a d u) lv pc (v0 :: .ref (a 0) :: rest) := by
  obtain ⟨_, _, _, _, _, _, _⟩ := u
  exact x_callI (ci := 1) h hM hd G2_isEdge rfl rfl Y2_isEdge hfr hlo hst rfl k
abbrev C2_isPoint (av : List Value) (u : S2) (post : Int32 → S2 → Prop) : Prop := Mi w2 t2 yX2_isPoint cX2_isPoint 2 .boolean 0 0 av u post
theorem G2_isPoint : GoodIn lw_all (wsV RX2 33 RX2 yX2_isPoint (ws_ yX2_isPoint cX2_isPoint 2 (some .boolean))) := lw_V q189 q191 qs8 q25 q192
theorem Y2_isPoint : yX2_isPoint.cls = RX2 ∧ yX2_isPoint.cls ≠ "java/lang/invoke/MethodHandle" ∧ yX2_isPoint.cls ≠ "java/lang/invoke/VarHandle" ∧ (parseMethodDescriptor yX2_isPoint.desc).map (fun q => q.parameters.length) = some 1 := by decide +kernel
theorem k2_isPoint {X : gx_C} {cc : ByteArray} {fr lo pc : Nat} {lv : List (Option Value)} {rest : List Value} {a : Nat → Nat} {d : Nat → ClassId} {v0 : Value} {u : S2} {post : Int32 → S2 → Prop} (h : Ok X cc RX2 (t2 d) fr lo) (hd : decode cc pc = .ok (.invokevirtual 33, 3)) (hM : C2_isPoint [v0] u post) (hfr : 1 ≤ fr) (hlo : 21 ≤ lo) (hst : (rest.map fun v => v.category).sum ≤ 8) (k : ∀ (r : Int32) (u' : S2), post r u' → JJ X (w2 a d u') lv (pc + 3) (.int r :: rest)) : JJ X (w2 a d u) lv pc (v0 :: .ref (a 0) :: rest) := by
  obtain ⟨_, _, _, _, _, _, _⟩ := u
  exact x_callI (ci := 1) h hM hd G2_isPoint rfl rfl Y2_isPoint hfr hlo hst rfl k
abbrev C2_merge (av : List Value) (u : S2) (post : Int32 → S2 → Prop) : Prop := Mi w2 t2 yX2_merge cX2_merge 5 .int 2 43 av u post
abbrev C2_noCircle (av : List Value) (u : S2) (post : Int32 → S2 → Prop) : Prop := Mi w2 t2 yX2_noCircle cX2_noCircle 6 .boolean 1 22 av u post
theorem G2_noCircle : GoodIn lw_all (wsV RX2 88 RX2 yX2_noCircle (ws_ yX2_noCircle cX2_noCircle 6 (some .boolean))) := lw_V q290 q292 qs22 q25 q293
theorem Y2_noCircle : yX2_noCircle.cls = RX2 ∧ yX2_noCircle.cls ≠ "java/lang/invoke/MethodHandle" ∧ yX2_noCircle.cls ≠ "java/lang/invoke/VarHandle" ∧ (parseMethodDescriptor yX2_noCircle.desc).map (fun q => q.parameters.length) = some 1 := by decide +kernel
theorem k2_noCircle {X : gx_C} {cc : ByteArray} {fr lo pc : Nat} {lv : List (Option Value)} {rest : List Value} {a : Nat → Nat} {d : Nat → ClassId} {v0 : Value} {u : S2} {post : Int32 → S2 → Prop} (h : Ok X cc RX2 (t2 d) fr lo) (hd : decode cc pc = .ok (.invokevirtual 88, 3)) (hM : C2_noCircle [v0] u post) (hfr : 2 ≤ fr) (hlo : 47 ≤ lo) (hst : (rest.map fun v => v.category).sum ≤ 8) (k : ∀ (r : Int32) (u' : S2), post r u' → JJ X (w2 a d u') lv (pc + 3) (.int r :: rest)) : JJ X (w2 a d u) lv pc (v0 :: .ref (a 0) :: rest) := by
  obtain ⟨_, _, _, _, _, _, _⟩ := u
  exact x_callI (ci := 1) h hM hd G2_noCircle rfl rfl Y2_noCircle hfr hlo hst rfl k
abbrev C2_parts (av : List Value) (u : S2) (post : Int32 → S2 → Prop) : Prop := Mi w2 t2 yX2_parts cX2_parts 2 .int 3 68 av u post
abbrev C2_partsOf (av : List Value) (u : S2) (post : Int32 → S2 → Prop) : Prop := Mi w2 t2 yX2_partsOf cX2_partsOf 4 .int 2 45 av u post
theorem G2_partsOf : GoodIn lw_all (wsV RX2 52 RX2 yX2_partsOf (ws_ yX2_partsOf cX2_partsOf 4 (some .int))) := lw_V q218 q220 qs11 q25 q221
theorem Y2_partsOf : yX2_partsOf.cls = RX2 ∧ yX2_partsOf.cls ≠ "java/lang/invoke/MethodHandle" ∧ yX2_partsOf.cls ≠ "java/lang/invoke/VarHandle" ∧ (parseMethodDescriptor yX2_partsOf.desc).map (fun q => q.parameters.length) = some 1 := by decide +kernel
theorem k2_partsOf {X : gx_C} {cc : ByteArray} {fr lo pc : Nat} {lv : List (Option Value)} {rest : List Value} {a : Nat → Nat} {d : Nat → ClassId} {v0 : Value} {u : S2} {post : Int32 → S2 → Prop} (h : Ok X cc RX2 (t2 d) fr lo) (hd : decode cc pc = .ok (.invokevirtual 52, 3)) (hM : C2_partsOf [v0] u post) (hfr : 3 ≤ fr) (hlo : 68 ≤ lo) (hst : (rest.map fun v => v.category).sum ≤ 8) (k : ∀ (r : Int32) (u' : S2), post r u' → JJ X (w2 a d u') lv (pc + 3) (.int r :: rest)) : JJ X (w2 a d u) lv pc (v0 :: .ref (a 0) :: rest) := by
  obtain ⟨_, _, _, _, _, _, _⟩ := u
  exact x_callI (ci := 1) h hM hd G2_partsOf rfl rfl Y2_partsOf hfr hlo hst rfl k
abbrev C2_power (av : List Value) (u : S2) (post : Int32 → S2 → Prop) : Prop := Mi w2 t2 yX2_power cX2_power 5 .int 0 0 av u post
theorem G2_power : GoodIn lw_all (wsV RX2 77 RX2 yX2_power (ws_ yX2_power cX2_power 5 (some .int))) := lw_V q270 q272 qs19 q25 q273
theorem Y2_power : yX2_power.cls = RX2 ∧ yX2_power.cls ≠ "java/lang/invoke/MethodHandle" ∧ yX2_power.cls ≠ "java/lang/invoke/VarHandle" ∧ (parseMethodDescriptor yX2_power.desc).map (fun q => q.parameters.length) = some 2 := by decide +kernel
theorem k2_power {X : gx_C} {cc : ByteArray} {fr lo pc : Nat} {lv : List (Option Value)} {rest : List Value} {a : Nat → Nat} {d : Nat → ClassId} {v0 v1 : Value} {u : S2} {post : Int32 → S2 → Prop} (h : Ok X cc RX2 (t2 d) fr lo) (hd : decode cc pc = .ok (.invokevirtual 77, 3)) (hM : C2_power [v0, v1] u post) (hfr : 1 ≤ fr) (hlo : 24 ≤ lo) (hst : (rest.map fun v => v.category).sum ≤ 8) (k : ∀ (r : Int32) (u' : S2), post r u' → JJ X (w2 a d u') lv (pc + 3) (.int r :: rest)) : JJ X (w2 a d u) lv pc (v1 :: v0 :: .ref (a 0) :: rest) := by
  obtain ⟨_, _, _, _, _, _, _⟩ := u
  exact x_callI (ci := 1) h hM hd G2_power rfl rfl Y2_power hfr hlo hst rfl k
abbrev C2_rank (av : List Value) (u : S2) (post : Int32 → S2 → Prop) : Prop := Mi w2 t2 yX2_rank cX2_rank 2 .int 3 68 av u post
theorem G2_rank : GoodIn lw_all (wsV RX2 63 RX2 yX2_rank (ws_ yX2_rank cX2_rank 2 (some .int))) := lw_V q234 q236 qs14 q25 q237
theorem Y2_rank : yX2_rank.cls = RX2 ∧ yX2_rank.cls ≠ "java/lang/invoke/MethodHandle" ∧ yX2_rank.cls ≠ "java/lang/invoke/VarHandle" ∧ (parseMethodDescriptor yX2_rank.desc).map (fun q => q.parameters.length) = some 1 := by decide +kernel
theorem k2_rank {X : gx_C} {cc : ByteArray} {fr lo pc : Nat} {lv : List (Option Value)} {rest : List Value} {a : Nat → Nat} {d : Nat → ClassId} {v0 : Value} {u : S2} {post : Int32 → S2 → Prop} (h : Ok X cc RX2 (t2 d) fr lo) (hd : decode cc pc = .ok (.invokevirtual 63, 3)) (hM : C2_rank [v0] u post) (hfr : 4 ≤ fr) (hlo : 89 ≤ lo) (hst : (rest.map fun v => v.category).sum ≤ 8) (k : ∀ (r : Int32) (u' : S2), post r u' → JJ X (w2 a d u') lv (pc + 3) (.int r :: rest)) : JJ X (w2 a d u) lv pc (v0 :: .ref (a 0) :: rest) := by
  obtain ⟨_, _, _, _, _, _, _⟩ := u
  exact x_callI (ci := 1) h hM hd G2_rank rfl rfl Y2_rank hfr hlo hst rfl k
abbrev C2_sizeOf (av : List Value) (u : S2) (post : Int32 → S2 → Prop) : Prop := Mi w2 t2 yX2_sizeOf cX2_sizeOf 4 .int 1 22 av u post
theorem G2_sizeOf : GoodIn lw_all (wsV RX2 66 RX2 yX2_sizeOf (ws_ yX2_sizeOf cX2_sizeOf 4 (some .int))) := lw_V q238 q240 qs15 q25 q241
theorem Y2_sizeOf : yX2_sizeOf.cls = RX2 ∧ yX2_sizeOf.cls ≠ "java/lang/invoke/MethodHandle" ∧ yX2_sizeOf.cls ≠ "java/lang/invoke/VarHandle" ∧ (parseMethodDescriptor yX2_sizeOf.desc).map (fun q => q.parameters.length) = some 1 := by decide +kernel
theorem k2_sizeOf {X : gx_C} {cc : ByteArray} {fr lo pc : Nat} {lv : List (Option Value)} {rest : List Value} {a : Nat → Nat} {d : Nat → ClassId} {v0 : Value} {u : S2} {post : Int32 → S2 → Prop} (h : Ok X cc RX2 (t2 d) fr lo) (hd : decode cc pc = .ok (.invokevirtual 66, 3)) (hM : C2_sizeOf [v0] u post) (hfr : 2 ≤ fr) (hlo : 45 ≤ lo) (hst : (rest.map fun v => v.category).sum ≤ 8) (k : ∀ (r : Int32) (u' : S2), post r u' → JJ X (w2 a d u') lv (pc + 3) (.int r :: rest)) : JJ X (w2 a d u) lv pc (v0 :: .ref (a 0) :: rest) := by
  obtain ⟨_, _, _, _, _, _, _⟩ := u
  exact x_callI (ci := 1) h hM hd G2_sizeOf rfl rfl Y2_sizeOf hfr hlo hst rfl k
abbrev C2_spanning (av : List Value) (u : S2) (post : Int32 → S2 → Prop) : Prop := Mi w2 t2 yX2_spanning cX2_spanning 1 .int 5 116 av u post
abbrev C2_spread (av : List Value) (u : S2) (post : S2 → Prop) : Prop := Mv w2 t2 yX2_spread cX2_spread 4 1 22 av u post
theorem G2_spread : GoodIn lw_all (wsV RX2 48 RX2 yX2_spread (ws_ yX2_spread cX2_spread 4 none)) := lw_V q222 q224 qs12 q25 q225
theorem Y2_spread : yX2_spread.cls = RX2 ∧ yX2_spread.cls ≠ "java/lang/invoke/MethodHandle" ∧ yX2_spread.cls ≠ "java/lang/invoke/VarHandle" ∧ (parseMethodDescriptor yX2_spread.desc).map (fun q => q.parameters.length) = some 1 := by decide +kernel
theorem k2_spread {X : gx_C} {cc : ByteArray} {fr lo pc : Nat} {lv : List (Option Value)} {rest : List Value} {a : Nat → Nat} {d : Nat → ClassId} {v0 : Value} {u : S2} {post : S2 → Prop} (h : Ok X cc RX2 (t2 d) fr lo) (hd : decode cc pc = .ok (.invokevirtual 48, 3)) (hM : C2_spread [v0] u post) (hfr : 2 ≤ fr) (hlo : 45 ≤ lo) (hst : (rest.map fun v => v.category).sum ≤ 8) (k : ∀ (u' : S2), post u' → JJ X (w2 a d u') lv (pc + 3) rest) : JJ X (w2 a d u) lv pc (v0 :: .ref (a 0) :: rest) := by
  obtain ⟨_, _, _, _, _, _, _⟩ := u
  exact x_callV (ci := 1) h hM hd G2_spread rfl rfl Y2_spread hfr hlo hst rfl k
abbrev C2_trees (av : List Value) (u : S2) (post : Int32 → S2 → Prop) : Prop := Mi w2 t2 yX2_trees cX2_trees 1 .int 5 116 av u post
end
section
/-! PLAIN MATHEMATICS 1: labels of points, edges as pairs, the polynomial by deletion and contraction, and the sum over all sets of edges -/
def gp_ph (a b x : Nat) : Nat := if x = max a b then min a b else x
def gp_sj (f : Nat → Nat) (e : Nat × Nat) : Nat → Nat := fun p => gp_ph (f e.1) (f e.2) (f p)
def gp_dr (f : Nat → Nat) (L : List (Nat × Nat)) : Nat → Nat := L.foldl gp_sj f
theorem gp_ph_comm (a b c d x : Nat) : gp_ph (gp_ph a b c) (gp_ph a b d) (gp_ph a b x) = gp_ph (gp_ph c d a) (gp_ph c d b) (gp_ph c d x) := by
  unfold gp_ph
  repeat' split
  all_goals omega
theorem gp_ph_self (a x : Nat) : gp_ph a a x = x := by unfold gp_ph; split <;> omega
theorem gp_ph_le (a b x : Nat) : gp_ph a b x ≤ x := by unfold gp_ph; split <;> omega
theorem gp_ph_idem (a b x : Nat) : gp_ph a b (gp_ph a b x) = gp_ph a b x := by
  unfold gp_ph
  repeat' split
  all_goals omega
theorem gp_ph_a (a b : Nat) : gp_ph a b a = min a b := by unfold gp_ph; split <;> omega
theorem gp_ph_b (a b : Nat) : gp_ph a b b = min a b := by unfold gp_ph; split <;> omega
theorem gp_ph_par {a b c d : Nat} (h : gp_ph c d a = gp_ph c d b) (n : a ≠ b) : max a b = max c d ∧ min a b = min c d := by
  unfold gp_ph at h
  split at h <;> split at h <;> omega
theorem gp_sj_loop {f : Nat → Nat} {e : Nat × Nat} (h : f e.1 = f e.2) : gp_sj f e = f := by
  funext p
  show gp_ph (f e.1) (f e.2) (f p) = f p
  rw [h]; exact gp_ph_self _ _
theorem gp_sj_comm (f : Nat → Nat) (e g : Nat × Nat) : gp_sj (gp_sj f e) g = gp_sj (gp_sj f g) e := by
  funext p; exact gp_ph_comm _ _ _ _ _
theorem gp_sj_ends (f : Nat → Nat) (e : Nat × Nat) : gp_sj f e e.1 = gp_sj f e e.2 := by
  show gp_ph (f e.1) (f e.2) (f e.1) = gp_ph (f e.1) (f e.2) (f e.2)
  rw [gp_ph_a, gp_ph_b]
theorem gp_sj_par {f : Nat → Nat} {e g : Nat × Nat} (h : (gp_sj f g) e.1 = (gp_sj f g) e.2) (n : f e.1 ≠ f e.2) : gp_sj f e = gp_sj f g := by
  obtain ⟨h1, h2⟩ := gp_ph_par (show gp_ph (f g.1) (f g.2) (f e.1) = gp_ph (f g.1) (f g.2) (f e.2) from h) n
  funext p
  show gp_ph (f e.1) (f e.2) (f p) = gp_ph (f g.1) (f g.2) (f p)
  unfold gp_ph
  rw [h1, h2]
theorem gp_sj_eq {f : Nat → Nat} {p q : Nat} (e : Nat × Nat) (h : f p = f q) : gp_sj f e p = gp_sj f e q := by
  show gp_ph _ _ (f p) = gp_ph _ _ (f q)
  rw [h]
theorem gp_dr_mono (L : List (Nat × Nat)) : ∀ (f : Nat → Nat) (p q : Nat), f p = f q → gp_dr f L p = gp_dr f L q := by
  induction L with
  | nil => intro f p q h; exact h
  | cons e L ih => intro f p q h; exact ih (gp_sj f e) p q (gp_sj_eq e h)
theorem gp_dr_sj (L : List (Nat × Nat)) : ∀ (f : Nat → Nat) (e : Nat × Nat), gp_dr (gp_sj f e) L = gp_sj (gp_dr f L) e := by
  induction L with
  | nil => intro f e; rfl
  | cons g L ih =>
    intro f e
    show gp_dr (gp_sj (gp_sj f e) g) L = gp_sj (gp_dr (gp_sj f g) L) e
    rw [gp_sj_comm, ih]
/-- the rank: how many edges of L join two parts -/
def gp_rk : List (Nat × Nat) → (Nat → Nat) → Nat
  | [], _ => 0
  | e :: L, f => (if f e.1 = f e.2 then 0 else 1) + gp_rk L (gp_sj f e)
def gp_nl : List (Nat × Nat) → (Nat → Nat) → Nat
  | [], _ => 0
  | e :: L, f => (if f e.1 = f e.2 then 1 else 0) + gp_nl L (gp_sj f e)
theorem gp_rk_nl (L : List (Nat × Nat)) : ∀ f, gp_rk L f + gp_nl L f = L.length := by
  induction L with
  | nil => intro f; rfl
  | cons e L ih =>
    intro f
    have := ih (gp_sj f e)
    simp only [gp_rk, gp_nl, List.length_cons]
    split <;> omega
theorem gp_rk_loop {f : Nat → Nat} {e : Nat × Nat} {L : List (Nat × Nat)} (h : f e.1 = f e.2) : gp_rk (e :: L) f = gp_rk L f := by
  simp only [gp_rk]; rw [if_pos h, gp_sj_loop h]; omega
theorem gp_rk_tie {f : Nat → Nat} {e : Nat × Nat} {L : List (Nat × Nat)} (h : f e.1 ≠ f e.2) : gp_rk (e :: L) f = 1 + gp_rk L (gp_sj f e) := by
  simp only [gp_rk]; rw [if_neg h]
theorem gp_nl_loop {f : Nat → Nat} {e : Nat × Nat} {L : List (Nat × Nat)} (h : f e.1 = f e.2) : gp_nl (e :: L) f = gp_nl L f + 1 := by
  simp only [gp_nl]; rw [if_pos h, gp_sj_loop h]; omega
theorem gp_nl_tie {f : Nat → Nat} {e : Nat × Nat} {L : List (Nat × Nat)} (h : f e.1 ≠ f e.2) : gp_nl (e :: L) f = gp_nl L (gp_sj f e) := by
  simp only [gp_nl]; rw [if_neg h]; omega
/-- the sum over all sets of edges: g (rank) (what is over) -/
def gp_sm (g : Nat → Nat → Int) : List (Nat × Nat) → (Nat → Nat) → Nat → Nat → Int
  | [], _, r, z => g r z
  | e :: L, f, r, z => gp_sm g L f r z + (if f e.1 = f e.2 then gp_sm g L f r (z + 1) else gp_sm g L (gp_sj f e) (r + 1) z)
theorem gp_bridge (g : Nat → Nat → Int) (e : Nat × Nat) (L : List (Nat × Nat)) : ∀ (f : Nat → Nat) (r z : Nat), gp_dr f L e.1 ≠ gp_dr f L e.2 → gp_sm g L f r z = gp_sm g L (gp_sj f e) r z ∧ gp_rk L f = gp_rk L (gp_sj f e) := by
  induction L with
  | nil => intro f r z _; exact ⟨rfl, rfl⟩
  | cons q L ih =>
    intro f r z hb
    have hb' : gp_dr (gp_sj f q) L e.1 ≠ gp_dr (gp_sj f q) L e.2 := hb
    have hb0 : gp_dr f L e.1 ≠ gp_dr f L e.2 := by
      intro h
      apply hb'
      rw [gp_dr_sj]
      exact gp_sj_eq q h
    have hq : f q.1 ≠ f q.2 → (gp_sj f e) q.1 ≠ (gp_sj f e) q.2 := by
      intro n h
      have hh := gp_sj_par h n
      apply hb'
      apply gp_dr_mono
      rw [hh]
      exact gp_sj_ends f e
    have i1 := ih f r z hb0
    have i2 := ih f r (z + 1) hb0
    have i3 := ih (gp_sj f q) (r + 1) z hb'
    rw [gp_sj_comm] at i3
    by_cases n : f q.1 = f q.2
    · have n2 : (gp_sj f e) q.1 = (gp_sj f e) q.2 := gp_sj_eq e n
      refine ⟨?_, ?_⟩
      · simp only [gp_sm]
        rw [if_pos n, if_pos n2, i1.1, i2.1]
      · rw [gp_rk_loop n, gp_rk_loop n2, i1.2]
    · have n2 := hq n
      refine ⟨?_, ?_⟩
      · simp only [gp_sm]
        rw [if_neg n, if_neg n2, i1.1, i3.1]
      · rw [gp_rk_tie n, gp_rk_tie n2, i3.2]
theorem gp_nonb (e : Nat × Nat) (L : List (Nat × Nat)) : ∀ f : Nat → Nat, f e.1 ≠ f e.2 → gp_dr f L e.1 = gp_dr f L e.2 → gp_rk L f = 1 + gp_rk L (gp_sj f e) := by
  induction L with
  | nil => intro f h1 h2; exact absurd h2 h1
  | cons q L ih =>
    intro f h1 h2
    have h2' : gp_dr (gp_sj f q) L e.1 = gp_dr (gp_sj f q) L e.2 := h2
    by_cases n : f q.1 = f q.2
    · have e1 : gp_sj f q = f := gp_sj_loop n
      have n2 : (gp_sj f e) q.1 = (gp_sj f e) q.2 := gp_sj_eq e n
      rw [gp_rk_loop n, gp_rk_loop n2]
      rw [e1] at h2'
      exact ih f h1 h2'
    · by_cases pq : (gp_sj f q) e.1 = (gp_sj f q) e.2
      · have e1 := gp_sj_par pq h1
        have n2 : (gp_sj f e) q.1 = (gp_sj f e) q.2 := by rw [e1]; exact gp_sj_ends f q
        rw [gp_rk_tie n, gp_rk_loop n2, e1]
      · have n2 : (gp_sj f e) q.1 ≠ (gp_sj f e) q.2 := by
          intro h
          have e1 := gp_sj_par h n
          apply pq
          rw [e1]
          exact gp_sj_ends f e
        have hh := ih (gp_sj f q) pq h2'
        rw [gp_sj_comm] at hh
        rw [gp_rk_tie n, gp_rk_tie n2, hh]
/-- the coefficient of X^i in X^x (X - 1)^a -/
def gp_B : Nat → Nat → Nat → Int
  | 0, x, i => if x = i then 1 else 0
  | a + 1, x, i => gp_B a (x + 1) i - gp_B a x i
/-- the coefficient of X^i Y^j in X^x Y^y (X - 1)^a (Y - 1)^b times the polynomial by deletion and contraction -/
def gp_T (a b i j : Nat) : List (Nat × Nat) → (Nat → Nat) → Nat → Nat → Int
  | [], _, x, y => gp_B a x i * gp_B b y j
  | e :: L, f, x, y => if f e.1 = f e.2 then gp_T a b i j L f x (y + 1) else if gp_dr f L e.1 = gp_dr f L e.2 then gp_T a b i j L f x y + gp_T a b i j L (gp_sj f e) x y else gp_T a b i j L (gp_sj f e) (x + 1) y
theorem gp_T_a (a b i j : Nat) (L : List (Nat × Nat)) : ∀ (f : Nat → Nat) (x y : Nat), gp_T (a + 1) b i j L f x y = gp_T a b i j L f (x + 1) y - gp_T a b i j L f x y := by
  induction L with
  | nil => intro f x y; simp only [gp_T, gp_B]; rw [Int.sub_mul]
  | cons e L ih =>
    intro f x y
    simp only [gp_T]
    by_cases n : f e.1 = f e.2
    · rw [if_pos n, if_pos n, if_pos n, ih]
    · by_cases b : gp_dr f L e.1 = gp_dr f L e.2
      · rw [if_neg n, if_neg n, if_neg n, if_pos b, if_pos b, if_pos b, ih, ih]; omega
      · rw [if_neg n, if_neg n, if_neg n, if_neg b, if_neg b, if_neg b, ih]
theorem gp_T_b (a b i j : Nat) (L : List (Nat × Nat)) : ∀ (f : Nat → Nat) (x y : Nat), gp_T a (b + 1) i j L f x y = gp_T a b i j L f x (y + 1) - gp_T a b i j L f x y := by
  induction L with
  | nil => intro f x y; simp only [gp_T, gp_B]; rw [Int.mul_sub]
  | cons e L ih =>
    intro f x y
    simp only [gp_T]
    by_cases n : f e.1 = f e.2
    · rw [if_pos n, if_pos n, if_pos n, ih]
    · by_cases b : gp_dr f L e.1 = gp_dr f L e.2
      · rw [if_neg n, if_neg n, if_neg n, if_pos b, if_pos b, if_pos b, ih, ih]; omega
      · rw [if_neg n, if_neg n, if_neg n, if_neg b, if_neg b, if_neg b, ih]
theorem gp_main (t i j : Nat) (L : List (Nat × Nat)) : ∀ (f : Nat → Nat) (r z x y : Nat), r + gp_rk L f ≤ t → gp_sm (fun r z => gp_B (t - r) x i * gp_B z y j) L f r z = gp_T (t - r - gp_rk L f) z i j L f x y := by
  induction L with
  | nil => intro f r z x y _; simp only [gp_sm, gp_T, gp_rk, Nat.sub_zero]
  | cons e L ih =>
    intro f r z x y h
    by_cases n : f e.1 = f e.2
    · rw [gp_rk_loop n] at h ⊢
      simp only [gp_sm, gp_T]
      rw [if_pos n, if_pos n, ih f r z x y h, ih f r (z + 1) x y h, gp_T_b]
      omega
    · have hr := gp_rk_tie (L := L) n
      by_cases b : gp_dr f L e.1 = gp_dr f L e.2
      · have hh := gp_nonb e L f n b
        simp only [gp_sm, gp_T]
        rw [if_neg n, if_neg n, if_pos b, ih f r z x y (by omega), ih (gp_sj f e) (r + 1) z x y (by omega)]
        rw [show t - r - gp_rk L f = t - r - gp_rk (e :: L) f by omega, show t - (r + 1) - gp_rk L (gp_sj f e) = t - r - gp_rk (e :: L) f by omega]
      · have hh := gp_bridge (fun r z => gp_B (t - r) x i * gp_B z y j) e L f r z b
        simp only [gp_sm, gp_T]
        rw [if_neg n, if_neg n, if_neg b, hh.1, ih (gp_sj f e) r z x y (by omega), ih (gp_sj f e) (r + 1) z x y (by omega)]
        rw [show t - r - gp_rk L (gp_sj f e) = (t - r - gp_rk (e :: L) f) + 1 by omega, show t - (r + 1) - gp_rk L (gp_sj f e) = t - r - gp_rk (e :: L) f by omega, gp_T_a]
        omega
/-- how many leaves of deletion and contraction end at the place c = 9 x + y -/
def gp_lc (c : Nat) : List (Nat × Nat) → (Nat → Nat) → Nat → Nat → Nat
  | [], _, x, y => if 9 * x + y = c then 1 else 0
  | e :: L, f, x, y => if f e.1 = f e.2 then gp_lc c L f x (y + 1) else if gp_dr f L e.1 = gp_dr f L e.2 then gp_lc c L f x y + gp_lc c L (gp_sj f e) x y else gp_lc c L (gp_sj f e) (x + 1) y
theorem gp_lc_T (i j : Nat) (hj : j < 9) (L : List (Nat × Nat)) : ∀ (f : Nat → Nat) (x y : Nat), y + L.length < 9 → ((gp_lc (9 * i + j) L f x y : Nat) : Int) = gp_T 0 0 i j L f x y := by
  induction L with
  | nil =>
    intro f x y h
    simp only [List.length_nil, Nat.add_zero] at h
    simp only [gp_lc, gp_T, gp_B]
    by_cases e1 : x = i
    · by_cases e2 : y = j
      · rw [if_pos (by omega), if_pos e1, if_pos e2]; rfl
      · rw [if_neg (by omega), if_pos e1, if_neg e2]; rfl
    · rw [if_neg (by omega), if_neg e1, Int.zero_mul]; rfl
  | cons e L ih =>
    intro f x y h
    simp only [List.length_cons] at h
    simp only [gp_lc, gp_T]
    by_cases n : f e.1 = f e.2
    · rw [if_pos n, if_pos n, ih f x (y + 1) (by omega)]
    · by_cases b : gp_dr f L e.1 = gp_dr f L e.2
      · rw [if_neg n, if_neg n, if_pos b, if_pos b, Int.natCast_add, ih f x y (by omega), ih _ x y (by omega)]
      · rw [if_neg n, if_neg n, if_neg b, if_neg b, ih _ (x + 1) y (by omega)]
/-- the component's polynomial is the sum over all sets of edges -/
theorem gp_coef (i j : Nat) (hj : j < 9) (L : List (Nat × Nat)) (f : Nat → Nat) (hL : L.length < 9) : ((gp_lc (9 * i + j) L f 0 0 : Nat) : Int) = gp_sm (fun r z => gp_B (gp_rk L f - r) 0 i * gp_B z 0 j) L f 0 0 := by
  rw [gp_lc_T i j hj L f 0 0 (by omega), gp_main (gp_rk L f) i j L f 0 0 0 0 (by omega)]
  rw [show gp_rk L f - 0 - gp_rk L f = 0 by omega]
end
section
/-! PLAIN MATHEMATICS 2: sums, sets of edges as numbers, the value of the polynomial -/
def gp_su : Nat → (Nat → Int) → Int
  | 0, _ => 0
  | n + 1, F => gp_su n F + F n
theorem gp_su_congr {n : Nat} {F G : Nat → Int} (h : ∀ k, k < n → F k = G k) : gp_su n F = gp_su n G := by
  induction n with
  | zero => rfl
  | succ n ih => simp only [gp_su]; rw [ih (fun k hk => h k (by omega)), h n (by omega)]
theorem gp_su_add (n : Nat) (F G : Nat → Int) : gp_su n (fun k => F k + G k) = gp_su n F + gp_su n G := by
  induction n with
  | zero => rfl
  | succ n ih => simp only [gp_su]; rw [ih]; omega
theorem gp_su_sub (n : Nat) (F G : Nat → Int) : gp_su n (fun k => F k - G k) = gp_su n F - gp_su n G := by
  induction n with
  | zero => rfl
  | succ n ih => simp only [gp_su]; rw [ih]; omega
theorem gp_su_mul (n : Nat) (c : Int) (F : Nat → Int) : gp_su n (fun k => c * F k) = c * gp_su n F := by
  induction n with
  | zero => simp only [gp_su, Int.mul_zero]
  | succ n ih => simp only [gp_su]; rw [ih, Int.mul_add]
theorem gp_su_mulr (n : Nat) (c : Int) (F : Nat → Int) : gp_su n (fun k => F k * c) = gp_su n F * c := by
  induction n with
  | zero => simp only [gp_su, Int.zero_mul]
  | succ n ih => simp only [gp_su]; rw [ih, Int.add_mul]
theorem gp_su_app (m k : Nat) (F : Nat → Int) : gp_su (m + k) F = gp_su m F + gp_su k (fun d => F (m + d)) := by
  induction k with
  | zero => simp only [gp_su, Nat.add_zero, Int.add_zero]
  | succ k ih => rw [← Nat.add_assoc]; simp only [gp_su]; rw [ih]; omega
theorem gp_su_two (n : Nat) (F : Nat → Int) : gp_su (2 * n) F = gp_su n (fun a => F (2 * a)) + gp_su n (fun a => F (2 * a + 1)) := by
  induction n with
  | zero => rfl
  | succ n ih =>
    rw [show 2 * (n + 1) = 2 * n + 1 + 1 by omega]
    simp only [gp_su]
    rw [ih]; omega
theorem gp_su_blk (b n : Nat) (F : Nat → Int) : gp_su (b * n) F = gp_su n (fun c => gp_su b (fun d => F (b * c + d))) := by
  induction n with
  | zero => rfl
  | succ n ih =>
    rw [Nat.mul_succ, gp_su_app]
    simp only [gp_su]
    rw [ih]
theorem gp_su_pick {n x : Nat} (h : x < n) (F : Nat → Int) : gp_su n (fun i => (if x = i then 1 else 0) * F i) = F x := by
  induction n with
  | zero => omega
  | succ n ih =>
    simp only [gp_su]
    by_cases e : x = n
    · rw [if_pos e, Int.one_mul, e]
      have : gp_su n (fun i => (if n = i then 1 else 0) * F i) = gp_su n (fun i => 0 * F i) := gp_su_congr (fun k hk => by rw [if_neg (by omega)])
      rw [this, gp_su_mul, Int.zero_mul, Int.zero_add]
    · rw [if_neg e, Int.zero_mul, Int.add_zero, ih (by omega)]
theorem gp_su_const (n : Nat) (c : Int) : gp_su n (fun _ => c) = n * c := by
  induction n with
  | zero => simp only [gp_su]; omega
  | succ n ih => simp only [gp_su]; rw [ih, Int.natCast_add, Int.add_mul]; omega
theorem gp_bin (N : Nat) (X : Int) : ∀ (a x : Nat), x + a < N → gp_su N (fun i => gp_B a x i * X ^ i) = X ^ x * (X - 1) ^ a := by
  intro a
  induction a with
  | zero =>
    intro x h
    simp only [gp_B]
    rw [gp_su_pick (by omega), Int.pow_zero, Int.mul_one]
  | succ a ih =>
    intro x h
    have e : gp_su N (fun i => gp_B (a + 1) x i * X ^ i) = gp_su N (fun i => gp_B a (x + 1) i * X ^ i - gp_B a x i * X ^ i) := gp_su_congr (fun k _ => by simp only [gp_B]; rw [Int.sub_mul])
    rw [e, gp_su_sub, ih (x + 1) (by omega), ih x (by omega), Int.pow_succ, Int.pow_succ]
    generalize (X - 1) ^ a = P
    generalize X ^ x = R
    grind
/-- the edges of L that are in the set a -/
def gp_sel : List (Nat × Nat) → Nat → List (Nat × Nat)
  | [], _ => []
  | e :: L, a => if a % 2 = 1 then e :: gp_sel L (a / 2) else gp_sel L (a / 2)
theorem gp_sel_mem {L : List (Nat × Nat)} : ∀ {a : Nat} {e : Nat × Nat}, e ∈ gp_sel L a → e ∈ L := by
  induction L with
  | nil => intro a e h; exact h
  | cons q L ih =>
    intro a e h
    simp only [gp_sel] at h
    split at h
    · rcases List.mem_cons.mp h with r | r
      · rw [r]; exact List.mem_cons_self
      · exact List.mem_cons_of_mem _ (ih r)
    · exact List.mem_cons_of_mem _ (ih h)
theorem gp_sel_len {L : List (Nat × Nat)} : ∀ (a : Nat), (gp_sel L a).length ≤ L.length := by
  induction L with
  | nil => intro a; exact Nat.le_refl _
  | cons q L ih =>
    intro a
    have := ih (a / 2)
    simp only [gp_sel]
    split <;> simp only [List.length_cons] <;> omega
def gp_ss : List (Nat × Nat) → (List (Nat × Nat) → Int) → Int
  | [], H => H []
  | e :: L, H => gp_ss L H + gp_ss L (fun A => H (e :: A))
theorem gp_su_sel (L : List (Nat × Nat)) : ∀ H : List (Nat × Nat) → Int, gp_su (2 ^ L.length) (fun a => H (gp_sel L a)) = gp_ss L H := by
  induction L with
  | nil => intro H; simp only [List.length_nil, Nat.pow_zero, gp_su, gp_sel, gp_ss]; omega
  | cons e L ih =>
    intro H
    rw [List.length_cons, Nat.pow_succ, Nat.mul_comm, gp_su_two]
    simp only [gp_ss]
    rw [← ih H, ← ih (fun A => H (e :: A))]
    congr 1
    · exact gp_su_congr (fun k _ => by simp only [gp_sel]; rw [if_neg (by omega), show 2 * k / 2 = k by omega])
    · exact gp_su_congr (fun k _ => by simp only [gp_sel]; rw [if_pos (by omega), show (2 * k + 1) / 2 = k by omega])
theorem gp_ss_sm (g : Nat → Nat → Int) (L : List (Nat × Nat)) : ∀ (f : Nat → Nat) (r z : Nat), gp_ss L (fun A => g (r + gp_rk A f) (z + gp_nl A f)) = gp_sm g L f r z := by
  induction L with
  | nil => intro f r z; rfl
  | cons e L ih =>
    intro f r z
    simp only [gp_ss, gp_sm]
    rw [ih f r z]
    by_cases n : f e.1 = f e.2
    · rw [if_pos n, ← ih f r (z + 1)]
      have : (fun A => g (r + gp_rk (e :: A) f) (z + gp_nl (e :: A) f)) = (fun A => g (r + gp_rk A f) (z + 1 + gp_nl A f)) := by
        funext A
        rw [gp_rk_loop n, gp_nl_loop n, show z + (gp_nl A f + 1) = z + 1 + gp_nl A f by omega]
      rw [this]
    · rw [if_neg n, ← ih (gp_sj f e) (r + 1) z]
      have : (fun A => g (r + gp_rk (e :: A) f) (z + gp_nl (e :: A) f)) = (fun A => g (r + 1 + gp_rk A (gp_sj f e)) (z + gp_nl A (gp_sj f e))) := by
        funext A
        rw [gp_rk_tie n, gp_nl_tie n, show r + (1 + gp_rk A (gp_sj f e)) = r + 1 + gp_rk A (gp_sj f e) by omega]
      rw [this]
/-- the sum over all sets, as numbers below 2^m -/
theorem gp_su_sm (g : Nat → Nat → Int) (L : List (Nat × Nat)) (f : Nat → Nat) : gp_su (2 ^ L.length) (fun a => g (gp_rk (gp_sel L a) f) (gp_nl (gp_sel L a) f)) = gp_sm g L f 0 0 := by
  rw [gp_su_sel L (fun A => g (gp_rk A f) (gp_nl A f)), ← gp_ss_sm g L f 0 0]
  simp only [Nat.zero_add]
theorem gp_sm_congr {g g' : Nat → Nat → Int} (L : List (Nat × Nat)) : ∀ (f : Nat → Nat) (r z : Nat), (∀ r' z', r' ≤ r + L.length → z' ≤ z + L.length → g r' z' = g' r' z') → gp_sm g L f r z = gp_sm g' L f r z := by
  induction L with
  | nil => intro f r z h; exact h r z (Nat.le_refl _) (Nat.le_refl _)
  | cons e L ih =>
    intro f r z h
    simp only [List.length_cons] at h
    simp only [gp_sm]
    rw [ih f r z (fun r' z' h1 h2 => h r' z' (by omega) (by omega)), ih f r (z + 1) (fun r' z' h1 h2 => h r' z' (by omega) (by omega)), ih (gp_sj f e) (r + 1) z (fun r' z' h1 h2 => h r' z' (by omega) (by omega))]
theorem gp_sum_sm (n : Nat) (g : Nat → Nat → Nat → Int) (c : Nat → Int) (L : List (Nat × Nat)) : ∀ (f : Nat → Nat) (r z : Nat), gp_su n (fun k => gp_sm (g k) L f r z * c k) = gp_sm (fun r z => gp_su n (fun k => g k r z * c k)) L f r z := by
  induction L with
  | nil => intro f r z; rfl
  | cons e L ih =>
    intro f r z
    simp only [gp_sm]
    by_cases n' : f e.1 = f e.2
    · simp only [if_pos n']
      rw [← ih f r z, ← ih f r (z + 1), ← gp_su_add]
      exact gp_su_congr (fun k _ => Int.add_mul _ _ _)
    · simp only [if_neg n']
      rw [← ih f r z, ← ih (gp_sj f e) (r + 1) z, ← gp_su_add]
      exact gp_su_congr (fun k _ => Int.add_mul _ _ _)
/-- the polynomial's value -/
def gp_val (X Y : Int) (L : List (Nat × Nat)) (f : Nat → Nat) : Int := gp_sm (fun r z => (X - 1) ^ (gp_rk L f - r) * (Y - 1) ^ z) L f 0 0
theorem gp_rk_len (L : List (Nat × Nat)) (f : Nat → Nat) : gp_rk L f ≤ L.length := by have := gp_rk_nl L f; omega
theorem gp_value (X Y : Int) (L : List (Nat × Nat)) (f : Nat → Nat) (hL : L.length < 9) : gp_su 9 (fun i => gp_su 9 (fun j => ((gp_lc (9 * i + j) L f 0 0 : Nat) : Int) * (X ^ i * Y ^ j))) = gp_val X Y L f := by
  have ht := gp_rk_len L f
  have e1 : gp_su 9 (fun i => gp_su 9 (fun j => ((gp_lc (9 * i + j) L f 0 0 : Nat) : Int) * (X ^ i * Y ^ j))) = gp_su 9 (fun i => gp_sm (fun r z => gp_su 9 (fun j => (gp_B (gp_rk L f - r) 0 i * gp_B z 0 j) * (X ^ i * Y ^ j))) L f 0 0 * 1) := by
    refine gp_su_congr (fun i _ => ?_)
    rw [Int.mul_one, ← gp_sum_sm 9 (fun j r z => gp_B (gp_rk L f - r) 0 i * gp_B z 0 j) (fun j => X ^ i * Y ^ j) L f 0 0]
    exact gp_su_congr (fun j hj => by rw [gp_coef i j hj L f hL])
  rw [e1, gp_sum_sm 9 (fun i r z => gp_su 9 (fun j => (gp_B (gp_rk L f - r) 0 i * gp_B z 0 j) * (X ^ i * Y ^ j))) (fun _ => 1) L f 0 0]
  refine gp_sm_congr L f 0 0 (fun r z h1 h2 => ?_)
  have e2 : gp_su 9 (fun i => gp_su 9 (fun j => (gp_B (gp_rk L f - r) 0 i * gp_B z 0 j) * (X ^ i * Y ^ j)) * 1) = gp_su 9 (fun i => (gp_B (gp_rk L f - r) 0 i * X ^ i) * ((Y - 1) ^ z)) := by
    refine gp_su_congr (fun i _ => ?_)
    rw [Int.mul_one]
    have e3 : gp_su 9 (fun j => (gp_B (gp_rk L f - r) 0 i * gp_B z 0 j) * (X ^ i * Y ^ j)) = gp_su 9 (fun j => (gp_B (gp_rk L f - r) 0 i * X ^ i) * (gp_B z 0 j * Y ^ j)) := gp_su_congr (fun j _ => by
      generalize gp_B (gp_rk L f - r) 0 i = P; generalize gp_B z 0 j = R; generalize X ^ i = U; generalize Y ^ j = V; grind)
    rw [e3, gp_su_mul, gp_bin 9 Y z 0 (by omega), Int.pow_zero, Int.one_mul]
  show gp_su 9 (fun i => gp_su 9 (fun j => (gp_B (gp_rk L f - r) 0 i * gp_B z 0 j) * (X ^ i * Y ^ j)) * 1) = _
  rw [e2, gp_su_mulr, gp_bin 9 X (gp_rk L f - r) 0 (by omega), Int.pow_zero, Int.one_mul]
end
section
/-! PLAIN MATHEMATICS 3: how many parts; labels that spread -/
def gp_id : Nat → Nat := fun p => p
def gp_ok (n : Nat) (f : Nat → Nat) : Prop := ∀ p, p < n → f (f p) = f p ∧ f p ≤ p
def gp_es (n : Nat) (L : List (Nat × Nat)) : Prop := ∀ e ∈ L, e.1 < n ∧ e.2 < n
def gp_cc (f : Nat → Nat) : Nat → Nat
  | 0 => 0
  | n + 1 => gp_cc f n + (if f n = n then 1 else 0)
theorem gp_es_cons {n : Nat} {e : Nat × Nat} {L : List (Nat × Nat)} (h : gp_es n (e :: L)) : (e.1 < n ∧ e.2 < n) ∧ gp_es n L := ⟨h e List.mem_cons_self, fun q hq => h q (List.mem_cons_of_mem _ hq)⟩
theorem gp_es_sel {n : Nat} {L : List (Nat × Nat)} (h : gp_es n L) (a : Nat) : gp_es n (gp_sel L a) := fun e he => h e (gp_sel_mem he)
theorem gp_ok_id (n : Nat) : gp_ok n gp_id := fun _ _ => ⟨rfl, Nat.le_refl _⟩
theorem gp_ok_sj {n : Nat} {f : Nat → Nat} {e : Nat × Nat} (h : gp_ok n f) (h1 : e.1 < n) (h2 : e.2 < n) : gp_ok n (gp_sj f e) := by
  intro p hp
  have a := h e.1 h1
  have b := h e.2 h2
  have c := h p hp
  have hy : f (gp_ph (f e.1) (f e.2) (f p)) = gp_ph (f e.1) (f e.2) (f p) := by
    unfold gp_ph
    split
    · rcases Nat.le_total (f e.1) (f e.2) with q | q
      · rw [Nat.min_eq_left q]; exact a.1
      · rw [Nat.min_eq_right q]; exact b.1
    · exact c.1
  show gp_ph (f e.1) (f e.2) (f (gp_ph (f e.1) (f e.2) (f p))) = gp_ph (f e.1) (f e.2) (f p) ∧ gp_ph (f e.1) (f e.2) (f p) ≤ p
  rw [hy, gp_ph_idem]
  exact ⟨rfl, Nat.le_trans (gp_ph_le _ _ _) c.2⟩
theorem gp_cc_congr {f g : Nat → Nat} {n : Nat} (h : ∀ p, p < n → (f p = p ↔ g p = p)) : gp_cc f n = gp_cc g n := by
  induction n with
  | zero => rfl
  | succ n ih =>
    simp only [gp_cc]
    rw [ih (fun p hp => h p (by omega))]
    have := h n (by omega)
    by_cases q : f n = n
    · rw [if_pos q, if_pos (this.mp q)]
    · rw [if_neg q, if_neg (fun r => q (this.mpr r))]
theorem gp_cc_less {f g : Nat → Nat} {M : Nat} : ∀ n, M < n → f M = M → (∀ p, p < n → (g p = p ↔ (f p = p ∧ p ≠ M))) → gp_cc g n + 1 = gp_cc f n := by
  intro n
  induction n with
  | zero => intro h; omega
  | succ n ih =>
    intro hM hf h
    simp only [gp_cc]
    by_cases e : M = n
    · have hc := gp_cc_congr (f := g) (g := f) (n := n) (fun p hp => ⟨fun q => ((h p (by omega)).mp q).1, fun q => (h p (by omega)).mpr ⟨q, by omega⟩⟩)
      have hg : ¬ g n = n := fun q => ((h n (by omega)).mp q).2 e.symm
      have hf' : f n = n := by rw [← e]; exact hf
      rw [hc, if_neg hg, if_pos hf']
    · have hh := ih (by omega) hf (fun p hp => h p (by omega))
      have hn := h n (by omega)
      by_cases q : f n = n
      · rw [if_pos q, if_pos (hn.mpr ⟨q, fun r => e r.symm⟩)]; omega
      · rw [if_neg q, if_neg (fun r => q (hn.mp r).1)]; omega
theorem gp_cc_sj {n : Nat} {f : Nat → Nat} {e : Nat × Nat} (h : gp_ok n f) (h1 : e.1 < n) (h2 : e.2 < n) (ne : f e.1 ≠ f e.2) : gp_cc (gp_sj f e) n + 1 = gp_cc f n := by
  have a := h e.1 h1
  have b := h e.2 h2
  refine gp_cc_less (M := max (f e.1) (f e.2)) n ?_ ?_ ?_
  · omega
  · rcases Nat.le_total (f e.1) (f e.2) with q | q
    · rw [Nat.max_eq_right q]; exact b.1
    · rw [Nat.max_eq_left q]; exact a.1
  · intro p hp
    have c := h p hp
    show gp_ph (f e.1) (f e.2) (f p) = p ↔ _
    unfold gp_ph
    split <;> omega
theorem gp_cc_dr (n : Nat) (L : List (Nat × Nat)) : ∀ f, gp_ok n f → gp_es n L → gp_ok n (gp_dr f L) ∧ gp_cc (gp_dr f L) n + gp_rk L f = gp_cc f n := by
  induction L with
  | nil => intro f h _; exact ⟨h, rfl⟩
  | cons e L ih =>
    intro f h he
    obtain ⟨⟨h1, h2⟩, hL⟩ := gp_es_cons he
    have hh := ih (gp_sj f e) (gp_ok_sj h h1 h2) hL
    refine ⟨hh.1, ?_⟩
    show gp_cc (gp_dr (gp_sj f e) L) n + gp_rk (e :: L) f = gp_cc f n
    by_cases q : f e.1 = f e.2
    · rw [gp_rk_loop q]
      have h3 := hh.2
      rw [gp_sj_loop q] at h3 ⊢
      exact h3
    · rw [gp_rk_tie q]
      have := gp_cc_sj h h1 h2 q
      omega
theorem gp_cc_id (n : Nat) : gp_cc gp_id n = n := by
  induction n with
  | zero => rfl
  | succ n ih => simp only [gp_cc]; rw [ih, if_pos (show gp_id n = n from rfl)]
theorem gp_cc_le (f : Nat → Nat) (n : Nat) : gp_cc f n ≤ n := by
  induction n with
  | zero => exact Nat.le_refl _
  | succ n ih => simp only [gp_cc]; split <;> omega
theorem gp_rank {n : Nat} {L : List (Nat × Nat)} (h : gp_es n L) : gp_cc (gp_dr gp_id L) n + gp_rk L gp_id = n := by
  have := (gp_cc_dr n L gp_id (gp_ok_id n) h).2
  rw [gp_cc_id] at this
  exact this
theorem gp_rk_drop (e : Nat × Nat) (L : List (Nat × Nat)) (f : Nat → Nat) : gp_rk L f ≤ gp_rk (e :: L) f := by
  by_cases n : f e.1 = f e.2
  · rw [gp_rk_loop n]; exact Nat.le_refl _
  · rw [gp_rk_tie n]
    by_cases b : gp_dr f L e.1 = gp_dr f L e.2
    · have := gp_nonb e L f n b; omega
    · have := (gp_bridge (fun _ _ => 0) e L f 0 0 b).2; omega
theorem gp_rk_sel (L : List (Nat × Nat)) : ∀ (f : Nat → Nat) (a : Nat), gp_rk (gp_sel L a) f ≤ gp_rk L f := by
  induction L with
  | nil => intro f a; exact Nat.le_refl _
  | cons e L ih =>
    intro f a
    simp only [gp_sel]
    split
    · by_cases n : f e.1 = f e.2
      · rw [gp_rk_loop n, gp_rk_loop n]; exact ih f _
      · rw [gp_rk_tie n, gp_rk_tie n]; have := ih (gp_sj f e) (a / 2); omega
    · exact Nat.le_trans (ih f _) (gp_rk_drop e L f)
/-- a label's spread along one edge -/
def gp_sp (l : Nat → Nat) (e : Nat × Nat) : Nat → Nat := fun p => if p = e.1 ∨ p = e.2 then min (l e.1) (l e.2) else l p
def gp_rd (l : Nat → Nat) (A : List (Nat × Nat)) : Nat → Nat := A.foldl gp_sp l
def gp_it : Nat → List (Nat × Nat) → (Nat → Nat) → (Nat → Nat)
  | 0, _, l => l
  | k + 1, A, l => gp_rd (gp_it k A l) A
theorem gp_dr_edge (A : List (Nat × Nat)) : ∀ (f : Nat → Nat) (e : Nat × Nat), e ∈ A → gp_dr f A e.1 = gp_dr f A e.2 := by
  induction A with
  | nil => intro f e h; cases h
  | cons q A ih =>
    intro f e h
    show gp_dr (gp_sj f q) A e.1 = gp_dr (gp_sj f q) A e.2
    rcases List.mem_cons.mp h with r | r
    · rw [r]; exact gp_dr_mono A _ _ _ (gp_sj_ends f q)
    · exact ih _ e r
theorem gp_dr_resp (g : Nat → Bool) (A : List (Nat × Nat)) : ∀ (f : Nat → Nat), (∀ p, g (f p) = g p) → (∀ e ∈ A, g e.1 = g e.2) → ∀ p, g (gp_dr f A p) = g p := by
  induction A with
  | nil => intro f h _ p; exact h p
  | cons q A ih =>
    intro f h hA p
    show g (gp_dr (gp_sj f q) A p) = g p
    refine ih (gp_sj f q) (fun p => ?_) (fun e he => hA e (List.mem_cons_of_mem _ he)) p
    show g (gp_ph (f q.1) (f q.2) (f p)) = g p
    have hq := hA q List.mem_cons_self
    have h1 := h q.1
    have h2 := h q.2
    have h3 := h p
    unfold gp_ph
    split
    · rename_i hm
      rw [← h3, hm]
      rcases Nat.le_total (f q.1) (f q.2) with r | r
      · rw [Nat.min_eq_left r, Nat.max_eq_right r, h1, h2, hq]
      · rw [Nat.min_eq_right r, Nat.max_eq_left r, h1, h2, hq]
    · exact h3
def gp_eqc (l F : Nat → Nat) : Nat → Nat
  | 0 => 0
  | n + 1 => gp_eqc l F n + (if l n = F n then 1 else 0)
theorem gp_eqc_le (l F : Nat → Nat) (n : Nat) : gp_eqc l F n ≤ n := by
  induction n with
  | zero => exact Nat.le_refl _
  | succ n ih => simp only [gp_eqc]; split <;> omega
theorem gp_eqc_full {l F : Nat → Nat} : ∀ {n : Nat}, n ≤ gp_eqc l F n → ∀ p, p < n → l p = F p := by
  intro n
  induction n with
  | zero => intro _ p hp; omega
  | succ n ih =>
    intro h p hp
    have hle := gp_eqc_le l F n
    simp only [gp_eqc] at h
    split at h
    · rename_i q
      by_cases e : p = n
      · rw [e]; exact q
      · exact ih (by omega) p (by omega)
    · omega
theorem gp_eqc_mono {l l' F : Nat → Nat} : ∀ {n : Nat}, (∀ p, p < n → l p = F p → l' p = F p) → gp_eqc l F n ≤ gp_eqc l' F n := by
  intro n
  induction n with
  | zero => intro _; exact Nat.le_refl _
  | succ n ih =>
    intro h
    have := ih (fun p hp => h p (by omega))
    simp only [gp_eqc]
    by_cases q : l n = F n
    · rw [if_pos q, if_pos (h n (by omega) q)]; omega
    · rw [if_neg q]; split <;> omega
theorem gp_eqc_lt {l l' F : Nat → Nat} {q : Nat} (h1 : ¬ l q = F q) (h2 : l' q = F q) : ∀ {n : Nat}, q < n → (∀ p, p < n → l p = F p → l' p = F p) → gp_eqc l F n + 1 ≤ gp_eqc l' F n := by
  intro n
  induction n with
  | zero => intro h; omega
  | succ n ih =>
    intro hq h
    simp only [gp_eqc]
    by_cases e : q = n
    · have := gp_eqc_mono (n := n) (fun p hp => h p (by omega))
      rw [← e, if_neg h1, if_pos h2, e]; omega
    · have := ih (by omega) (fun p hp => h p (by omega))
      by_cases r : l n = F n
      · rw [if_pos r, if_pos (h n (by omega) r)]; omega
      · rw [if_neg r]; split <;> omega
/-- a label stays within its part and falls -/
def gp_inv (n : Nat) (F l : Nat → Nat) : Prop := ∀ p, p < n → F (l p) = F p ∧ l p ≤ p
theorem gp_inv_ge {n : Nat} {F l : Nat → Nat} (hF : gp_ok n F) (h : gp_inv n F l) {p : Nat} (hp : p < n) : F p ≤ l p := by
  have a := h p hp
  have b := hF (l p) (by omega)
  omega
theorem gp_inv_sp {n : Nat} {F l : Nat → Nat} {e : Nat × Nat} (h1 : e.1 < n) (h2 : e.2 < n) (he : F e.1 = F e.2) (h : gp_inv n F l) : gp_inv n F (gp_sp l e) := by
  intro p hp
  have a := h e.1 h1
  have b := h e.2 h2
  show F (if p = e.1 ∨ p = e.2 then min (l e.1) (l e.2) else l p) = F p ∧ (if p = e.1 ∨ p = e.2 then min (l e.1) (l e.2) else l p) ≤ p
  split
  · rename_i q
    refine ⟨?_, ?_⟩
    · have hm : F (min (l e.1) (l e.2)) = F e.1 := by
        rcases Nat.le_total (l e.1) (l e.2) with r | r
        · rw [Nat.min_eq_left r]; exact a.1
        · rw [Nat.min_eq_right r, b.1, he]
      rcases q with q | q
      · rw [hm, q]
      · rw [hm, q, he]
    · rcases q with q | q <;> omega
  · exact h p hp
theorem gp_set_sp {n : Nat} {F l : Nat → Nat} {e : Nat × Nat} (hF : gp_ok n F) (h1 : e.1 < n) (h2 : e.2 < n) (he : F e.1 = F e.2) (h : gp_inv n F l) {p : Nat} (hs : l p = F p) : gp_sp l e p = F p := by
  have a := gp_inv_ge hF h h1
  have b := gp_inv_ge hF h h2
  show (if p = e.1 ∨ p = e.2 then min (l e.1) (l e.2) else l p) = F p
  split
  · rename_i q
    rcases q with q | q
    · rw [q] at hs ⊢; omega
    · rw [q] at hs ⊢; omega
  · exact hs
theorem gp_set_rd {n : Nat} {F : Nat → Nat} (hF : gp_ok n F) (B : List (Nat × Nat)) : ∀ l, gp_es n B → (∀ e ∈ B, F e.1 = F e.2) → gp_inv n F l → gp_inv n F (gp_rd l B) ∧ ∀ p, l p = F p → gp_rd l B p = F p := by
  induction B with
  | nil => intro l _ _ h; exact ⟨h, fun p q => q⟩
  | cons e B ih =>
    intro l hB hE h
    obtain ⟨⟨h1, h2⟩, hB'⟩ := gp_es_cons hB
    have he := hE e List.mem_cons_self
    have hh := ih (gp_sp l e) hB' (fun q hq => hE q (List.mem_cons_of_mem _ hq)) (gp_inv_sp h1 h2 he h)
    exact ⟨hh.1, fun p q => hh.2 p (gp_set_sp hF h1 h2 he h q)⟩
theorem gp_one_rd {n : Nat} {F : Nat → Nat} (hF : gp_ok n F) (e : Nat × Nat) (B : List (Nat × Nat)) : ∀ l, gp_es n B → (∀ e ∈ B, F e.1 = F e.2) → gp_inv n F l → e ∈ B → (l e.1 = F e.1 ∨ l e.2 = F e.2) → gp_rd l B e.1 = F e.1 ∧ gp_rd l B e.2 = F e.2 := by
  induction B with
  | nil => intro l _ _ _ h; cases h
  | cons b B ih =>
    intro l hB hE h hm ho
    obtain ⟨⟨h1, h2⟩, hB'⟩ := gp_es_cons hB
    have hb := hE b List.mem_cons_self
    have hE' : ∀ e ∈ B, F e.1 = F e.2 := fun q hq => hE q (List.mem_cons_of_mem _ hq)
    have hi := gp_inv_sp h1 h2 hb h
    have hs := gp_set_rd hF B (gp_sp l b) hB' hE' hi
    rcases List.mem_cons.mp hm with r | r
    · subst r
      have g1 := gp_inv_ge hF h h1
      have g2 := gp_inv_ge hF h h2
      refine ⟨hs.2 _ ?_, hs.2 _ ?_⟩
      · show (if e.1 = e.1 ∨ e.1 = e.2 then min (l e.1) (l e.2) else l e.1) = F e.1
        rw [if_pos (Or.inl rfl)]
        rcases ho with ho | ho <;> omega
      · show (if e.2 = e.1 ∨ e.2 = e.2 then min (l e.1) (l e.2) else l e.2) = F e.2
        rw [if_pos (Or.inr rfl)]
        rcases ho with ho | ho <;> omega
    · refine ih (gp_sp l b) hB' hE' hi r ?_
      rcases ho with ho | ho
      · exact Or.inl (gp_set_sp hF h1 h2 hb h ho)
      · exact Or.inr (gp_set_sp hF h1 h2 hb h ho)
theorem gp_round {n : Nat} {A : List (Nat × Nat)} (hA : gp_es n A) {l : Nat → Nat} (h : gp_inv n (gp_dr gp_id A) l) : gp_inv n (gp_dr gp_id A) (gp_rd l A) ∧ (n ≤ gp_eqc l (gp_dr gp_id A) n → n ≤ gp_eqc (gp_rd l A) (gp_dr gp_id A) n) ∧ (¬ n ≤ gp_eqc l (gp_dr gp_id A) n → gp_eqc l (gp_dr gp_id A) n + 1 ≤ gp_eqc (gp_rd l A) (gp_dr gp_id A) n) := by
  have hF := (gp_cc_dr n A gp_id (gp_ok_id n) hA).1
  have hE : ∀ e ∈ A, gp_dr gp_id A e.1 = gp_dr gp_id A e.2 := fun e he => gp_dr_edge A gp_id e he
  generalize hg : gp_dr gp_id A = F at h hF hE ⊢
  have hs := gp_set_rd hF A l hA hE h
  refine ⟨hs.1, fun q => Nat.le_trans q (gp_eqc_mono (fun p _ r => hs.2 p r)), fun q => ?_⟩
  have hex : ∃ e, e ∈ A ∧ ¬ (decide (l e.1 = F e.1) = decide (l e.2 = F e.2)) := by
    apply Classical.byContradiction
    intro hne
    have hall : ∀ e ∈ A, decide (l e.1 = F e.1) = decide (l e.2 = F e.2) := fun e he => Classical.byContradiction (fun r => hne ⟨e, he, r⟩)
    have hr := gp_dr_resp (fun p => decide (l p = F p)) A gp_id (fun p => rfl) hall
    rw [hg] at hr
    apply q
    have : ∀ p, p < n → l p = F p := by
      intro p hp
      have hp1 := hF p hp
      have hlt : F p < n := by omega
      have i1 := h (F p) hlt
      have i2 := gp_inv_ge hF h hlt
      have hc : l (F p) = F (F p) := by omega
      have := hr p
      simp only [hc, decide_true] at this
      exact of_decide_eq_true this.symm
    clear q hs hE hne hall hr
    have key : ∀ k, k ≤ n → k ≤ gp_eqc l F k := by
      intro k
      induction k with
      | zero => intro _; omega
      | succ k ih =>
        intro hk
        simp only [gp_eqc]
        rw [if_pos (this k (by omega))]
        have := ih (by omega)
        omega
    exact key n (Nat.le_refl _)
  obtain ⟨e, he, hx⟩ := hex
  have hb := hA e he
  by_cases c1 : l e.1 = F e.1
  · by_cases c2 : l e.2 = F e.2
    · exact absurd (by rw [decide_eq_true c1, decide_eq_true c2]) hx
    · have := gp_one_rd hF e A l hA hE h he (Or.inl c1)
      exact gp_eqc_lt c2 this.2 hb.2 (fun p _ r => hs.2 p r)
  · by_cases c2 : l e.2 = F e.2
    · have := gp_one_rd hF e A l hA hE h he (Or.inr c2)
      exact gp_eqc_lt c1 this.1 hb.1 (fun p _ r => hs.2 p r)
    · exact absurd (by rw [decide_eq_false c1, decide_eq_false c2]) hx
theorem gp_rounds {n : Nat} {A : List (Nat × Nat)} (hA : gp_es n A) : ∀ k, gp_inv n (gp_dr gp_id A) (gp_it k A gp_id) ∧ (k ≤ gp_eqc (gp_it k A gp_id) (gp_dr gp_id A) n ∨ n ≤ gp_eqc (gp_it k A gp_id) (gp_dr gp_id A) n) := by
  intro k
  induction k with
  | zero => exact ⟨fun p _ => ⟨rfl, Nat.le_refl _⟩, Or.inl (Nat.zero_le _)⟩
  | succ k ih =>
    have hr := gp_round hA ih.1
    refine ⟨hr.1, ?_⟩
    by_cases q : n ≤ gp_eqc (gp_it k A gp_id) (gp_dr gp_id A) n
    · exact Or.inr (hr.2.1 q)
    · have h1 := hr.2.2 q
      rcases ih.2 with r | r
      · exact Or.inl (Nat.le_trans (Nat.succ_le_succ r) h1)
      · exact absurd r q
/-- six rounds of spreading are enough for six points -/
theorem gp_spread {n : Nat} {A : List (Nat × Nat)} (hn : n ≤ 6) (hA : gp_es n A) : ∀ p, p < n → gp_it 6 A gp_id p = gp_dr gp_id A p := by
  have h := (gp_rounds hA 6).2
  exact gp_eqc_full (by rcases h with r | r <;> omega)
theorem gp_it_lt {n : Nat} {A : List (Nat × Nat)} (hA : gp_es n A) (k : Nat) : ∀ p, p < n → gp_it k A gp_id p < n := by
  intro p hp
  have := (gp_rounds hA k).1 p hp
  omega
end
section
/-! PLAIN MATHEMATICS 4: colourings, flows, directions, and the counts of sets -/
noncomputable def gp_in (P : Prop) : Int := @ite Int P (Classical.propDecidable P) 1 0
theorem gp_in_t {P : Prop} (h : P) : gp_in P = 1 := by unfold gp_in; exact if_pos h
theorem gp_in_f {P : Prop} (h : ¬ P) : gp_in P = 0 := by unfold gp_in; exact if_neg h
theorem gp_in_iff {P Q : Prop} (h : P ↔ Q) : gp_in P = gp_in Q := by
  by_cases q : Q
  · rw [gp_in_t q, gp_in_t (h.mpr q)]
  · rw [gp_in_f q, gp_in_f (fun r => q (h.mp r))]
noncomputable def gp_sc : Nat → (Nat → Prop) → Nat
  | 0, _ => 0
  | n + 1, P => gp_sc n P + @ite Nat (P n) (Classical.propDecidable (P n)) 1 0
theorem gp_sc_t {n : Nat} {P : Nat → Prop} (h : P n) : gp_sc (n + 1) P = gp_sc n P + 1 := by
  show gp_sc n P + @ite Nat (P n) (Classical.propDecidable (P n)) 1 0 = _
  rw [if_pos h]
theorem gp_sc_f {n : Nat} {P : Nat → Prop} (h : ¬ P n) : gp_sc (n + 1) P = gp_sc n P := by
  show gp_sc n P + @ite Nat (P n) (Classical.propDecidable (P n)) 1 0 = _
  rw [if_neg h]; rfl
theorem gp_sc_le (n : Nat) (P : Nat → Prop) : gp_sc n P ≤ n := by
  induction n with
  | zero => exact Nat.le_refl _
  | succ n ih =>
    by_cases h : P n
    · rw [gp_sc_t h]; omega
    · rw [gp_sc_f h]; omega
theorem gp_sc_su (n : Nat) (P : Nat → Prop) : ((gp_sc n P : Nat) : Int) = gp_su n (fun c => gp_in (P c)) := by
  induction n with
  | zero => rfl
  | succ n ih =>
    simp only [gp_su]
    by_cases h : P n
    · rw [gp_sc_t h, gp_in_t h, ← ih]; omega
    · rw [gp_sc_f h, gp_in_f h, ← ih]; omega
theorem gp_sc_congr {n : Nat} {P Q : Nat → Prop} (h : ∀ c, c < n → (P c ↔ Q c)) : gp_sc n P = gp_sc n Q := by
  induction n with
  | zero => rfl
  | succ n ih =>
    have hi := ih (fun c hc => h c (by omega))
    have hn := h n (by omega)
    by_cases q : P n
    · rw [gp_sc_t q, gp_sc_t (hn.mp q), hi]
    · rw [gp_sc_f q, gp_sc_f (fun r => q (hn.mpr r)), hi]
theorem gp_su_swap (m n : Nat) (F : Nat → Nat → Int) : gp_su m (fun i => gp_su n (fun j => F i j)) = gp_su n (fun j => gp_su m (fun i => F i j)) := by
  induction m with
  | zero =>
    simp only [gp_su]
    rw [gp_su_const n 0, Int.mul_zero]
  | succ m ih =>
    simp only [gp_su]
    rw [ih, ← gp_su_add]
def gp_sg (n : Nat) : Int := if n % 2 = 0 then 1 else -1
theorem gp_sg_0 : gp_sg 0 = 1 := rfl
theorem gp_sg_1 (n : Nat) : gp_sg (n + 1) = - gp_sg n := by
  unfold gp_sg
  by_cases h : n % 2 = 0
  · rw [if_pos h, if_neg (by omega)]
  · rw [if_neg h, if_pos (by omega)]; rfl
theorem gp_sg_sq (n : Nat) : gp_sg n * gp_sg n = 1 := by
  unfold gp_sg
  by_cases h : n % 2 = 0
  · rw [if_pos h]; rfl
  · rw [if_neg h]; rfl
theorem gp_sg_par {m n : Nat} (h : m % 2 = n % 2) : gp_sg m = gp_sg n := by unfold gp_sg; rw [h]
theorem gp_neg_pow (k : Int) (j : Nat) : (-k) ^ j = gp_sg j * k ^ j := by
  induction j with
  | zero => rw [Int.pow_zero, Int.pow_zero, gp_sg_0, Int.mul_one]
  | succ j ih =>
    rw [Int.pow_succ, Int.pow_succ, ih, gp_sg_1]
    generalize k ^ j = P
    generalize gp_sg j = S
    grind
theorem gp_one_pow (j : Nat) : (1 : Int) ^ j = 1 := by
  induction j with
  | zero => rfl
  | succ j ih => rw [Int.pow_succ, ih]; rfl
theorem gp_m1_pow (j : Nat) : (-1 : Int) ^ j = gp_sg j := by
  have := gp_neg_pow 1 j
  rw [gp_one_pow, Int.mul_one] at this
  exact this
theorem gp_sg_add (m n : Nat) : gp_sg (m + n) = gp_sg m * gp_sg n := by
  induction n with
  | zero => rw [gp_sg_0, Int.mul_one]; rfl
  | succ n ih => rw [← Nat.add_assoc, gp_sg_1, ih, gp_sg_1, Int.mul_neg]
/-- what is constant on the parts, one edge more -/
theorem gp_resp_iff {α : Type} (h : Nat → α) {n : Nat} {f : Nat → Nat} {e : Nat × Nat} (hf : gp_ok n f) (h1 : e.1 < n) (h2 : e.2 < n) : (∀ p, p < n → h (gp_sj f e p) = h p) ↔ ((∀ p, p < n → h (f p) = h p) ∧ h e.1 = h e.2) := by
  have a := hf e.1 h1
  have b := hf e.2 h2
  constructor
  · intro H
    have x1 : h (min (f e.1) (f e.2)) = h e.1 := by
      have := H e.1 h1
      rw [← gp_ph_a]; exact this
    have x2 : h (min (f e.1) (f e.2)) = h e.2 := by
      have := H e.2 h2
      rw [← gp_ph_b (f e.1) (f e.2)]; exact this
    refine ⟨fun p hp => ?_, x1.symm.trans x2⟩
    have c := hf p hp
    have y1 : h (gp_ph (f e.1) (f e.2) (f (f p))) = h (f p) := H (f p) (by omega)
    have y2 : h (gp_ph (f e.1) (f e.2) (f p)) = h p := H p hp
    rw [c.1] at y1
    exact y1.symm.trans y2
  · intro ⟨H, he⟩ p hp
    have x1 := H e.1 h1
    have x2 := H e.2 h2
    have x3 := H p hp
    show h (gp_ph (f e.1) (f e.2) (f p)) = h p
    unfold gp_ph
    split
    · rename_i hm
      rw [← x3, hm]
      rcases Nat.le_total (f e.1) (f e.2) with r | r
      · rw [Nat.min_eq_left r, Nat.max_eq_right r, x1, x2, he]
      · rw [Nat.min_eq_right r, Nat.max_eq_left r, x1, x2, he]
    · exact x3
/-! colourings -/
def gp_dg (k c p : Nat) : Nat := c / k ^ p % k
theorem gp_dg_lo {k q p c d : Nat} (h : p < q) : gp_dg k (k ^ q * d + c) p = gp_dg k c p := by
  rcases Nat.eq_zero_or_pos k with k0 | k0
  · subst k0
    rw [show (0 : Nat) ^ q = 0 from Nat.zero_pow (by omega), Nat.zero_mul, Nat.zero_add]
  · unfold gp_dg
    have e : k ^ q = k ^ p * (k * k ^ (q - p - 1)) := by
      rw [← Nat.pow_succ', ← Nat.pow_add]
      congr 1
      omega
    rw [e, Nat.mul_assoc, Nat.mul_add_div (Nat.pow_pos k0), Nat.mul_assoc, Nat.mul_add_mod]
theorem gp_dg_hi {k q c d : Nat} (hc : c < k ^ q) (hd : d < k) : gp_dg k (k ^ q * d + c) q = d := by
  unfold gp_dg
  rw [Nat.mul_add_div (by omega), Nat.div_eq_of_lt hc, Nat.add_zero, Nat.mod_eq_of_lt hd]
theorem gp_dg_lt {k c p : Nat} (hk : 0 < k) : gp_dg k c p < k := Nat.mod_lt _ hk
def gp_proper (k : Nat) (L : List (Nat × Nat)) (c : Nat) : Prop := ∀ e ∈ L, gp_dg k c e.1 ≠ gp_dg k c e.2
noncomputable def gp_P (n k : Nat) (L : List (Nat × Nat)) (f : Nat → Nat) : Int := gp_su (k ^ n) (fun c => gp_in ((∀ p, p < n → gp_dg k c (f p) = gp_dg k c p) ∧ gp_proper k L c))
def gp_Q (n k : Nat) : List (Nat × Nat) → (Nat → Nat) → Int
  | [], f => (k : Int) ^ gp_cc f n
  | e :: L, f => gp_Q n k L f - gp_Q n k L (gp_sj f e)
theorem gp_P_nil (k : Nat) (hk : 0 < k) (f : Nat → Nat) : ∀ q, gp_ok q f → gp_su (k ^ q) (fun c => gp_in (∀ p, p < q → gp_dg k c (f p) = gp_dg k c p)) = (k : Int) ^ gp_cc f q := by
  intro q
  induction q with
  | zero =>
    intro _
    simp only [Nat.pow_zero, gp_su, gp_cc, Int.pow_zero]
    rw [gp_in_t (fun p hp => by omega)]; rfl
  | succ q ih =>
    intro h
    have hi := ih (fun p hp => h p (by omega))
    have hq := h q (by omega)
    rw [Nat.pow_succ, gp_su_blk]
    simp only [gp_cc]
    have key : ∀ d, d < k → ∀ c, c < k ^ q → (gp_in (∀ p, p < q + 1 → gp_dg k (k ^ q * d + c) (f p) = gp_dg k (k ^ q * d + c) p) = gp_in ((∀ p, p < q → gp_dg k c (f p) = gp_dg k c p) ∧ gp_dg k (k ^ q * d + c) (f q) = d)) := by
      intro d hd c hc
      apply gp_in_iff
      constructor
      · intro H
        refine ⟨fun p hp => ?_, ?_⟩
        · have := H p (by omega)
          rw [gp_dg_lo hp, gp_dg_lo (Nat.lt_of_le_of_lt (h p (by omega)).2 hp)] at this
          exact this
        · have := H q (by omega)
          rw [gp_dg_hi hc hd] at this
          exact this
      · intro ⟨H, H2⟩ p hp
        by_cases e : p = q
        · subst e; rw [gp_dg_hi hc hd]; exact H2
        · have hp' : p < q := by omega
          rw [gp_dg_lo hp', gp_dg_lo (Nat.lt_of_le_of_lt (h p (by omega)).2 hp')]
          exact H p hp'
    by_cases e : f q = q
    · have e1 : gp_su k (fun c => gp_su (k ^ q) (fun d => gp_in (∀ p, p < q + 1 → gp_dg k (k ^ q * c + d) (f p) = gp_dg k (k ^ q * c + d) p))) = gp_su k (fun _ => (k : Int) ^ gp_cc f q) := by
        refine gp_su_congr (fun d hd => ?_)
        rw [← hi]
        refine gp_su_congr (fun c hc => ?_)
        rw [key d hd c hc]
        apply gp_in_iff
        exact ⟨fun H => H.1, fun H => ⟨H, by rw [e]; exact gp_dg_hi hc hd⟩⟩
      rw [e1, gp_su_const, if_pos e, Int.pow_succ, Int.mul_comm]
    · have e1 : gp_su k (fun c => gp_su (k ^ q) (fun d => gp_in (∀ p, p < q + 1 → gp_dg k (k ^ q * c + d) (f p) = gp_dg k (k ^ q * c + d) p))) = gp_su k (fun d => gp_su (k ^ q) (fun c => (if gp_dg k c (f q) = d then 1 else 0) * gp_in (∀ p, p < q → gp_dg k c (f p) = gp_dg k c p))) := by
        refine gp_su_congr (fun d hd => gp_su_congr (fun c hc => ?_))
        rw [key d hd c hc, gp_dg_lo (show f q < q by omega)]
        by_cases H : gp_dg k c (f q) = d
        · rw [if_pos H, Int.one_mul]
          exact gp_in_iff ⟨fun r => r.1, fun r => ⟨r, H⟩⟩
        · rw [if_neg H, Int.zero_mul]
          exact gp_in_f (fun r => H r.2)
      rw [e1, gp_su_swap, if_neg e, Nat.add_zero, ← hi]
      refine gp_su_congr (fun c hc => ?_)
      exact gp_su_pick (gp_dg_lt hk) (fun _ => gp_in (∀ p, p < q → gp_dg k c (f p) = gp_dg k c p))
theorem gp_in_del {A B D P' R' : Prop} (hP : P' ↔ (B ∧ ¬ D)) (hR : R' ↔ (A ∧ D)) : gp_in (A ∧ P') = gp_in (A ∧ B) - gp_in (R' ∧ B) := by
  have e1 : (A ∧ P') ↔ (A ∧ B ∧ ¬ D) := by rw [hP]
  have e2 : (R' ∧ B) ↔ (A ∧ B ∧ D) := by rw [hR]; exact ⟨fun r => ⟨r.1.1, r.2, r.1.2⟩, fun r => ⟨⟨r.1, r.2.2⟩, r.2.1⟩⟩
  rw [gp_in_iff e1, gp_in_iff e2]
  by_cases h : A ∧ B
  · by_cases d : D
    · rw [gp_in_f (P := A ∧ B ∧ ¬ D) (fun r => r.2.2 d), gp_in_t h, gp_in_t (P := A ∧ B ∧ D) ⟨h.1, h.2, d⟩]; rfl
    · rw [gp_in_t (P := A ∧ B ∧ ¬ D) ⟨h.1, h.2, d⟩, gp_in_t h, gp_in_f (P := A ∧ B ∧ D) (fun r => d r.2.2)]; rfl
  · rw [gp_in_f (P := A ∧ B ∧ ¬ D) (fun r => h ⟨r.1, r.2.1⟩), gp_in_f h, gp_in_f (P := A ∧ B ∧ D) (fun r => h ⟨r.1, r.2.1⟩)]; rfl
theorem gp_P_Q (n k : Nat) (hk : 0 < k) (L : List (Nat × Nat)) : ∀ f, gp_ok n f → gp_es n L → gp_P n k L f = gp_Q n k L f := by
  induction L with
  | nil =>
    intro f hf _
    simp only [gp_Q]
    rw [← gp_P_nil k hk f n hf]
    refine gp_su_congr (fun c _ => gp_in_iff ⟨fun r => r.1, fun r => ⟨r, fun e he => by cases he⟩⟩)
  | cons e L ih =>
    intro f hf he
    obtain ⟨⟨h1, h2⟩, hL⟩ := gp_es_cons he
    simp only [gp_Q]
    rw [← ih f hf hL, ← ih (gp_sj f e) (gp_ok_sj hf h1 h2) hL]
    unfold gp_P
    rw [← gp_su_sub]
    refine gp_su_congr (fun c _ => ?_)
    have hR := gp_resp_iff (gp_dg k c) hf h1 h2
    refine gp_in_del (D := gp_dg k c e.1 = gp_dg k c e.2) ⟨fun r => ⟨fun q hq => r q (List.mem_cons_of_mem _ hq), r e List.mem_cons_self⟩, fun r q hq => ?_⟩ hR
    rcases List.mem_cons.mp hq with s | s
    · rw [s]; exact r.2
    · exact r.1 q s
theorem gp_col (n k t : Nat) (L : List (Nat × Nat)) : ∀ (f : Nat → Nat) (r z : Nat), gp_ok n f → gp_es n L → gp_cc f n + r = n → r + gp_rk L f ≤ t → t ≤ n → (k : Int) ^ (n - t) * gp_sm (fun r z => (-(k : Int)) ^ (t - r) * (-1) ^ z) L f r z = gp_sg (t - r + z) * gp_Q n k L f := by
  induction L with
  | nil =>
    intro f r z _ _ hc hr ht
    simp only [gp_rk] at hr
    simp only [gp_sm, gp_Q]
    rw [gp_neg_pow, gp_m1_pow, gp_sg_add, show gp_cc f n = (n - t) + (t - r) by omega, Int.pow_add]
    generalize (k : Int) ^ (n - t) = P
    generalize (k : Int) ^ (t - r) = R
    generalize gp_sg (t - r) = S
    generalize gp_sg z = U
    grind
  | cons e L ih =>
    intro f r z hf he hc hr ht
    obtain ⟨⟨h1, h2⟩, hL⟩ := gp_es_cons he
    simp only [gp_sm, gp_Q]
    by_cases n' : f e.1 = f e.2
    · rw [gp_rk_loop n'] at hr
      have i1 := ih f r z hf hL hc hr ht
      have i2 := ih f r (z + 1) hf hL hc hr ht
      rw [if_pos n', gp_sj_loop n', Int.mul_add, i1, i2, ← Nat.add_assoc, gp_sg_1]
      generalize gp_sg (t - r + z) = S
      generalize gp_Q n k L f = U
      grind
    · rw [gp_rk_tie n'] at hr
      have hcs := gp_cc_sj hf h1 h2 n'
      have hd := gp_rk_drop e L f
      rw [gp_rk_tie n'] at hd
      have i1 := ih f r z hf hL hc (by omega) ht
      have i2 := ih (gp_sj f e) (r + 1) z (gp_ok_sj hf h1 h2) hL (by omega) (by omega) ht
      rw [if_neg n', Int.mul_add, i1, i2, show t - r + z = (t - (r + 1) + z) + 1 by omega, gp_sg_1]
      generalize gp_sg (t - (r + 1) + z) = S
      generalize gp_Q n k L f = U
      generalize gp_Q n k L (gp_sj f e) = V
      grind
theorem gp_sgT {S A B : Int} (h : A = S * B) (hS : S * S = 1) : B = S * A := by
  rw [h, ← Int.mul_assoc, hS, Int.one_mul]
/-- the number of proper colourings is the polynomial's value at 1 - k, 0, but for its factor and sign -/
theorem gp_colour (n k : Nat) (hn : 0 < n) (L : List (Nat × Nat)) (hL : gp_es n L) : ((gp_sc (k ^ n) (gp_proper k L) : Nat) : Int) = gp_sg (n - gp_cc (gp_dr gp_id L) n) * (gp_val (1 - (k : Int)) 0 L gp_id * (k : Int) ^ gp_cc (gp_dr gp_id L) n) := by
  have hr := gp_rank hL
  rcases Nat.eq_zero_or_pos k with k0 | k0
  · subst k0
    have hpos : 0 < gp_cc (gp_dr gp_id L) n := by
      have ho := (gp_cc_dr n L gp_id (gp_ok_id n) hL).1
      have h0 : gp_dr gp_id L 0 = 0 := by have := (ho 0 hn).2; omega
      have : ∀ q, 0 < q → 0 < gp_cc (gp_dr gp_id L) q := by
        intro q
        induction q with
        | zero => intro h; omega
        | succ q ih =>
          intro _
          simp only [gp_cc]
          by_cases hq : q = 0
          · subst hq; rw [if_pos h0]; omega
          · have := ih (by omega); omega
      exact this n hn
    rw [Nat.zero_pow hn, show ((0 : Nat) : Int) ^ gp_cc (gp_dr gp_id L) n = 0 from Int.zero_pow (by omega), Int.mul_zero, Int.mul_zero]
    rfl
  · have e1 : ((gp_sc (k ^ n) (gp_proper k L) : Nat) : Int) = gp_P n k L gp_id := by
      rw [gp_sc_su]
      exact gp_su_congr (fun c _ => gp_in_iff ⟨fun r => ⟨fun _ _ => rfl, r⟩, fun r => r.2⟩)
    have hc := gp_col n k (gp_rk L gp_id) L gp_id 0 0 (gp_ok_id n) hL (by rw [gp_cc_id]; rfl) (by omega) (by omega)
    rw [e1, gp_P_Q n k k0 L gp_id (gp_ok_id n) hL, gp_sgT hc (gp_sg_sq _)]
    rw [show gp_rk L gp_id - 0 + 0 = n - gp_cc (gp_dr gp_id L) n by omega, show n - gp_rk L gp_id = gp_cc (gp_dr gp_id L) n by omega]
    congr 1
    rw [Int.mul_comm]
    congr 1
    unfold gp_val
    rw [show (1 - (k : Int) - 1) = -(k : Int) by omega, show (0 - 1 : Int) = -1 by omega]
/-! directions -/
def gp_ac (n : Nat) (f : Nat → Nat) (O : List (Nat × Nat)) : Prop := ∃ h : Nat → Nat, (∀ p, p < n → h (f p) = h p) ∧ ∀ e ∈ O, h e.2 < h e.1
def gp_or : List (Nat × Nat) → Nat → List (Nat × Nat)
  | [], _ => []
  | e :: L, a => (if a % 2 = 1 then (e.2, e.1) else e) :: gp_or L (a / 2)
def gp_A : List (Nat × Nat) → (Nat → Nat) → Int
  | [], _ => 1
  | e :: L, f => if f e.1 = f e.2 then 0 else gp_A L f + gp_A L (gp_sj f e)
theorem gp_ac_sub {n : Nat} {f : Nat → Nat} {e : Nat × Nat} {O : List (Nat × Nat)} (h : gp_ac n f (e :: O)) : gp_ac n f O := by
  obtain ⟨g, h1, h2⟩ := h
  exact ⟨g, h1, fun q hq => h2 q (List.mem_cons_of_mem _ hq)⟩
theorem gp_ac_dir {n : Nat} {f : Nat → Nat} {e : Nat × Nat} {O : List (Nat × Nat)} (hf : gp_ok n f) (h1 : e.1 < n) (h2 : e.2 < n) (ne : f e.1 ≠ f e.2) (h : gp_ac n (gp_sj f e) O) : gp_ac n f (e :: O) := by
  obtain ⟨g, g1, g2⟩ := h
  obtain ⟨g3, g4⟩ := (gp_resp_iff g hf h1 h2).mp g1
  refine ⟨fun p => 2 * g p + (if f p = f e.1 then 1 else 0), fun p hp => ?_, fun q hq => ?_⟩
  · have := g3 p hp
    show 2 * g (f p) + (if f (f p) = f e.1 then 1 else 0) = 2 * g p + (if f p = f e.1 then 1 else 0)
    rw [this, (hf p hp).1]
  · show 2 * g q.2 + (if f q.2 = f e.1 then 1 else 0) < 2 * g q.1 + (if f q.1 = f e.1 then 1 else 0)
    rcases List.mem_cons.mp hq with r | r
    · rw [r, if_pos rfl, if_neg (fun x => ne x.symm), g4]; omega
    · have := g2 q r
      split <;> split <;> omega
theorem gp_sj_swap (f : Nat → Nat) (e : Nat × Nat) : gp_sj f (e.2, e.1) = gp_sj f e := by
  funext p
  show gp_ph (f e.2) (f e.1) (f p) = gp_ph (f e.1) (f e.2) (f p)
  unfold gp_ph
  rw [Nat.max_comm, Nat.min_comm]
theorem gp_ac_tie {n : Nat} {f : Nat → Nat} {e : Nat × Nat} {O : List (Nat × Nat)} (hf : gp_ok n f) (h1 : e.1 < n) (h2 : e.2 < n) (ne : f e.1 ≠ f e.2) : gp_in (gp_ac n f (e :: O)) + gp_in (gp_ac n f ((e.2, e.1) :: O)) = gp_in (gp_ac n f O) + gp_in (gp_ac n (gp_sj f e) O) := by
  by_cases c : gp_ac n (gp_sj f e) O
  · have a1 := gp_ac_dir hf h1 h2 ne c
    have a2 : gp_ac n f ((e.2, e.1) :: O) := gp_ac_dir hf h2 h1 (fun x => ne x.symm) (by rw [gp_sj_swap]; exact c)
    rw [gp_in_t c, gp_in_t a1, gp_in_t a2, gp_in_t (gp_ac_sub a1)]
  · rw [gp_in_f c]
    by_cases b : gp_ac n f O
    · rw [gp_in_t b]
      have hnot : ¬ (gp_ac n f (e :: O) ∧ gp_ac n f ((e.2, e.1) :: O)) := by
        intro ⟨x, y⟩
        obtain ⟨g, g1, g2⟩ := x
        obtain ⟨k, k1, k2⟩ := y
        have q1 : g e.2 < g e.1 := g2 e List.mem_cons_self
        have q2 : k e.1 < k e.2 := k2 (e.2, e.1) List.mem_cons_self
        apply c
        have hm : (k e.2 - k e.1) * g e.1 + (g e.1 - g e.2) * k e.1 = (k e.2 - k e.1) * g e.2 + (g e.1 - g e.2) * k e.2 := by
          obtain ⟨x, hx⟩ : ∃ x, g e.1 = g e.2 + x := ⟨g e.1 - g e.2, by omega⟩
          obtain ⟨y, hy⟩ : ∃ y, k e.2 = k e.1 + y := ⟨k e.2 - k e.1, by omega⟩
          rw [hx, hy, Nat.add_sub_cancel_left, Nat.add_sub_cancel_left, Nat.mul_add, Nat.mul_add, Nat.mul_comm y x]
          omega
        refine ⟨fun p => (k e.2 - k e.1) * g p + (g e.1 - g e.2) * k p, (gp_resp_iff (fun p => (k e.2 - k e.1) * g p + (g e.1 - g e.2) * k p) hf h1 h2).mpr ⟨fun p hp => ?_, hm⟩, fun q hq => ?_⟩
        · show (k e.2 - k e.1) * g (f p) + (g e.1 - g e.2) * k (f p) = (k e.2 - k e.1) * g p + (g e.1 - g e.2) * k p
          rw [g1 p hp, k1 p hp]
        · have r1 := g2 q (List.mem_cons_of_mem _ hq)
          have r2 := k2 q (List.mem_cons_of_mem _ hq)
          have r3 : (k e.2 - k e.1) * g q.2 < (k e.2 - k e.1) * g q.1 := Nat.mul_lt_mul_of_pos_left r1 (by omega)
          have r4 : (g e.1 - g e.2) * k q.2 < (g e.1 - g e.2) * k q.1 := Nat.mul_lt_mul_of_pos_left r2 (by omega)
          show (k e.2 - k e.1) * g q.2 + (g e.1 - g e.2) * k q.2 < (k e.2 - k e.1) * g q.1 + (g e.1 - g e.2) * k q.1
          omega
      obtain ⟨g, g1, g2⟩ := b
      rcases Nat.lt_trichotomy (g e.2) (g e.1) with r | r | r
      · have x : gp_ac n f (e :: O) := ⟨g, g1, fun q hq => by
          rcases List.mem_cons.mp hq with s | s
          · rw [s]; exact r
          · exact g2 q s⟩
        rw [gp_in_t x, gp_in_f (fun y => hnot ⟨x, y⟩)]
      · exact absurd ⟨g, (gp_resp_iff g hf h1 h2).mpr ⟨g1, r.symm⟩, g2⟩ c
      · have x : gp_ac n f ((e.2, e.1) :: O) := ⟨g, g1, fun q hq => by
          rcases List.mem_cons.mp hq with s | s
          · rw [s]; exact r
          · exact g2 q s⟩
        rw [gp_in_t x, gp_in_f (fun y => hnot ⟨y, x⟩)]; rfl
    · rw [gp_in_f b, gp_in_f (fun x => b (gp_ac_sub x)), gp_in_f (fun x => b (gp_ac_sub x))]
theorem gp_ac_loop {n : Nat} {f : Nat → Nat} {e : Nat × Nat} {O : List (Nat × Nat)} (h1 : e.1 < n) (h2 : e.2 < n) (h : f e.1 = f e.2) : ¬ gp_ac n f (e :: O) := by
  intro ⟨g, g1, g2⟩
  have := g2 e List.mem_cons_self
  have a := g1 e.1 h1
  have b := g1 e.2 h2
  rw [h] at a
  omega
theorem gp_ac_A (n : Nat) (L : List (Nat × Nat)) : ∀ f, gp_ok n f → gp_es n L → gp_su (2 ^ L.length) (fun a => gp_in (gp_ac n f (gp_or L a))) = gp_A L f := by
  induction L with
  | nil =>
    intro f _ _
    simp only [List.length_nil, Nat.pow_zero, gp_su, gp_or, gp_A]
    rw [gp_in_t ⟨fun _ => 0, fun _ _ => rfl, fun e he => by cases he⟩]; rfl
  | cons e L ih =>
    intro f hf he
    obtain ⟨⟨h1, h2⟩, hL⟩ := gp_es_cons he
    rw [List.length_cons, Nat.pow_succ, Nat.mul_comm, gp_su_two, ← gp_su_add]
    have e1 : gp_su (2 ^ L.length) (fun k => gp_in (gp_ac n f (gp_or (e :: L) (2 * k))) + gp_in (gp_ac n f (gp_or (e :: L) (2 * k + 1)))) = gp_su (2 ^ L.length) (fun k => gp_in (gp_ac n f (e :: gp_or L k)) + gp_in (gp_ac n f ((e.2, e.1) :: gp_or L k))) := by
      refine gp_su_congr (fun k _ => ?_)
      simp only [gp_or]
      rw [if_neg (by omega), if_pos (by omega), show 2 * k / 2 = k by omega, show (2 * k + 1) / 2 = k by omega]
    rw [e1]
    simp only [gp_A]
    by_cases n' : f e.1 = f e.2
    · rw [if_pos n']
      have e2 : gp_su (2 ^ L.length) (fun k => gp_in (gp_ac n f (e :: gp_or L k)) + gp_in (gp_ac n f ((e.2, e.1) :: gp_or L k))) = gp_su (2 ^ L.length) (fun _ => 0) := gp_su_congr (fun k _ => by
        rw [gp_in_f (gp_ac_loop h1 h2 n'), gp_in_f (gp_ac_loop (e := (e.2, e.1)) h2 h1 n'.symm)]; rfl)
      rw [e2, gp_su_const, Int.mul_zero]
    · rw [if_neg n', ← ih f hf hL, ← ih (gp_sj f e) (gp_ok_sj hf h1 h2) hL, ← gp_su_add]
      exact gp_su_congr (fun k _ => gp_ac_tie hf h1 h2 n')
theorem gp_acy (t : Nat) (L : List (Nat × Nat)) : ∀ (f : Nat → Nat) (r z : Nat), gp_sm (fun r z => (1 : Int) ^ (t - r) * (-1) ^ z) L f r z = gp_sg z * gp_A L f := by
  induction L with
  | nil => intro f r z; simp only [gp_sm, gp_A]; rw [gp_one_pow, gp_m1_pow, Int.one_mul, Int.mul_one]
  | cons e L ih =>
    intro f r z
    simp only [gp_sm, gp_A]
    by_cases n' : f e.1 = f e.2
    · rw [if_pos n', if_pos n', ih, ih, gp_sg_1]
      generalize gp_sg z = S
      generalize gp_A L f = U
      grind
    · rw [if_neg n', if_neg n', ih, ih, Int.mul_add]
/-- the number of directions without a circle is the polynomial's value at 2, 0 -/
theorem gp_acyclic (n : Nat) (L : List (Nat × Nat)) (hL : gp_es n L) : ((gp_sc (2 ^ L.length) (fun a => gp_ac n gp_id (gp_or L a)) : Nat) : Int) = gp_val 2 0 L gp_id := by
  rw [gp_sc_su, gp_ac_A n L gp_id (gp_ok_id n) hL]
  unfold gp_val
  rw [show (2 - 1 : Int) = 1 by omega, show (0 - 1 : Int) = -1 by omega, gp_acy, gp_sg_0, Int.one_mul]
end
section
/-! PLAIN MATHEMATICS 5: flows, labels that grow along directions, counts of sets, coefficients -/
def gp_ad (s : Nat → Int) (e : Nat × Nat) (v : Int) : Nat → Int := fun p => s p + (if p = e.1 then v else 0) - (if p = e.2 then v else 0)
def gp_fl (b : Nat) : List (Nat × Nat) → Nat → (Nat → Int) → (Nat → Int)
  | [], _, s => s
  | e :: L, c, s => gp_fl b L (c / b) (gp_ad s e (1 + ((c % b : Nat) : Int)))
theorem gp_ad_comm (s : Nat → Int) (e q : Nat × Nat) (v w : Int) : gp_ad (gp_ad s e v) q w = gp_ad (gp_ad s q w) e v := by
  funext p
  simp only [gp_ad]
  omega
theorem gp_ad_0 (s : Nat → Int) (e : Nat × Nat) : gp_ad s e 0 = s := by
  funext p
  simp only [gp_ad, ite_self]
  omega
theorem gp_fl_ad (b : Nat) (L : List (Nat × Nat)) : ∀ (c : Nat) (s : Nat → Int) (e : Nat × Nat) (v : Int), gp_fl b L c (gp_ad s e v) = gp_ad (gp_fl b L c s) e v := by
  induction L with
  | nil => intro c s e v; rfl
  | cons q L ih => intro c s e v; simp only [gp_fl]; rw [gp_ad_comm, ih]
def gp_bs (f : Nat → Nat) (s : Nat → Int) (n c : Nat) : Int := gp_su n (fun p => if f p = c then s p else 0)
theorem gp_bs_ad {f : Nat → Nat} {s : Nat → Int} {n : Nat} {e : Nat × Nat} {v : Int} {c : Nat} (h1 : e.1 < n) (h2 : e.2 < n) : gp_bs f (gp_ad s e v) n c = gp_bs f s n c + (if f e.1 = c then v else 0) - (if f e.2 = c then v else 0) := by
  unfold gp_bs
  have e1 : gp_su n (fun p => if f p = c then gp_ad s e v p else 0) = gp_su n (fun p => ((if f p = c then s p else 0) + (if e.1 = p then 1 else 0) * (if f p = c then v else 0)) - (if e.2 = p then 1 else 0) * (if f p = c then v else 0)) := by
    refine gp_su_congr (fun p _ => ?_)
    by_cases a : f p = c
    · rw [if_pos a, if_pos a, if_pos a]
      simp only [gp_ad]
      by_cases x : p = e.1
      · by_cases y : p = e.2
        · rw [if_pos x, if_pos y, if_pos x.symm, if_pos y.symm]; omega
        · rw [if_pos x, if_neg y, if_pos x.symm, if_neg (fun r => y r.symm)]; omega
      · by_cases y : p = e.2
        · rw [if_neg x, if_pos y, if_neg (fun r => x r.symm), if_pos y.symm]; omega
        · rw [if_neg x, if_neg y, if_neg (fun r => x r.symm), if_neg (fun r => y r.symm)]; omega
    · rw [if_neg a, if_neg a, if_neg a, Int.mul_zero, Int.mul_zero]; rfl
  rw [e1, gp_su_sub, gp_su_add, gp_su_pick h1 (fun p => if f p = c then v else 0), gp_su_pick h2 (fun p => if f p = c then v else 0)]
def gp_fo (n k : Nat) (f : Nat → Nat) (s : Nat → Int) : Prop := ∀ c, c < n → f c = c → gp_bs f s n c % (k : Int) = 0
/-- the sums at the parts that the edge e doesn't touch -/
def gp_fc (n k : Nat) (f : Nat → Nat) (e : Nat × Nat) (s : Nat → Int) : Prop := ∀ c, c < n → f c = c → c ≠ f e.1 → c ≠ f e.2 → gp_bs f s n c % (k : Int) = 0
theorem gp_fo_ad {n k : Nat} {f : Nat → Nat} {s : Nat → Int} {e : Nat × Nat} {v : Int} (hf : gp_ok n f) (h1 : e.1 < n) (h2 : e.2 < n) (ne : f e.1 ≠ f e.2) : gp_fo n k f (gp_ad s e v) ↔ (gp_fc n k f e s ∧ (gp_bs f s n (f e.1) + v) % (k : Int) = 0 ∧ (gp_bs f s n (f e.2) - v) % (k : Int) = 0) := by
  have a := hf e.1 h1
  have b := hf e.2 h2
  constructor
  · intro H
    refine ⟨fun c hc hr n1 n2 => ?_, ?_, ?_⟩
    · have := H c hc hr
      rw [gp_bs_ad h1 h2, if_neg (fun r => n1 r.symm), if_neg (fun r => n2 r.symm)] at this
      rw [show gp_bs f s n c = gp_bs f s n c + 0 - 0 by omega]
      exact this
    · have := H (f e.1) (by omega) a.1
      rw [gp_bs_ad h1 h2, if_pos rfl, if_neg (fun r => ne r.symm)] at this
      rw [show gp_bs f s n (f e.1) + v = gp_bs f s n (f e.1) + v - 0 by omega]
      exact this
    · have := H (f e.2) (by omega) b.1
      rw [gp_bs_ad h1 h2, if_neg ne, if_pos rfl] at this
      rw [show gp_bs f s n (f e.2) - v = gp_bs f s n (f e.2) + 0 - v by omega]
      exact this
  · intro ⟨H, H1, H2⟩ c hc hr
    rw [gp_bs_ad h1 h2]
    by_cases x : f e.1 = c
    · rw [if_pos x, if_neg (fun r => ne (x.trans r.symm)), ← x]
      rw [show gp_bs f s n (f e.1) + v - 0 = gp_bs f s n (f e.1) + v by omega]
      exact H1
    · by_cases y : f e.2 = c
      · rw [if_neg x, if_pos y, ← y]
        rw [show gp_bs f s n (f e.2) + 0 - v = gp_bs f s n (f e.2) - v by omega]
        exact H2
      · rw [if_neg x, if_neg y]
        rw [show gp_bs f s n c + 0 - 0 = gp_bs f s n c by omega]
        exact H c hc hr (fun r => x r.symm) (fun r => y r.symm)
theorem gp_sj_root {n : Nat} {f : Nat → Nat} {e : Nat × Nat} (hf : gp_ok n f) (h1 : e.1 < n) (h2 : e.2 < n) (ne : f e.1 ≠ f e.2) {p : Nat} (hp : p < n) : gp_sj f e p = p ↔ (f p = p ∧ p ≠ max (f e.1) (f e.2)) := by
  have c := hf p hp
  show gp_ph (f e.1) (f e.2) (f p) = p ↔ _
  unfold gp_ph
  split <;> omega
theorem gp_bs_off {f : Nat → Nat} {s : Nat → Int} {n : Nat} {e : Nat × Nat} {c : Nat} (n1 : c ≠ f e.1) (n2 : c ≠ f e.2) : gp_bs (gp_sj f e) s n c = gp_bs f s n c := by
  unfold gp_bs
  refine gp_su_congr (fun p _ => ?_)
  have : gp_sj f e p = c ↔ f p = c := by
    show gp_ph (f e.1) (f e.2) (f p) = c ↔ _
    unfold gp_ph
    split <;> omega
  by_cases x : f p = c
  · rw [if_pos x, if_pos (this.mpr x)]
  · rw [if_neg x, if_neg (fun r => x (this.mp r))]
theorem gp_bs_min {f : Nat → Nat} {s : Nat → Int} {n : Nat} {e : Nat × Nat} (ne : f e.1 ≠ f e.2) : gp_bs (gp_sj f e) s n (min (f e.1) (f e.2)) = gp_bs f s n (f e.1) + gp_bs f s n (f e.2) := by
  unfold gp_bs
  rw [← gp_su_add]
  refine gp_su_congr (fun p _ => ?_)
  have : gp_sj f e p = min (f e.1) (f e.2) ↔ (f p = f e.1 ∨ f p = f e.2) := by
    show gp_ph (f e.1) (f e.2) (f p) = _ ↔ _
    unfold gp_ph
    split <;> omega
  by_cases x : f p = f e.1
  · rw [if_pos (this.mpr (Or.inl x)), if_pos x, if_neg (fun r => ne (x.symm.trans r))]; omega
  · by_cases y : f p = f e.2
    · rw [if_pos (this.mpr (Or.inr y)), if_neg x, if_pos y]; omega
    · rw [if_neg (fun r => (this.mp r).elim x y), if_neg x, if_neg y]; rfl
theorem gp_fo_sj {n k : Nat} {f : Nat → Nat} {s : Nat → Int} {e : Nat × Nat} (hf : gp_ok n f) (h1 : e.1 < n) (h2 : e.2 < n) (ne : f e.1 ≠ f e.2) : gp_fo n k (gp_sj f e) s ↔ (gp_fc n k f e s ∧ (gp_bs f s n (f e.1) + gp_bs f s n (f e.2)) % (k : Int) = 0) := by
  have a := hf e.1 h1
  have b := hf e.2 h2
  constructor
  · intro H
    refine ⟨fun c hc hr n1 n2 => ?_, ?_⟩
    · have := H c hc ((gp_sj_root hf h1 h2 ne hc).mpr ⟨hr, by omega⟩)
      rw [gp_bs_off n1 n2] at this
      exact this
    · have hm : min (f e.1) (f e.2) < n := by omega
      have := H (min (f e.1) (f e.2)) hm ((gp_sj_root hf h1 h2 ne hm).mpr ⟨by
        rcases Nat.le_total (f e.1) (f e.2) with r | r
        · rw [Nat.min_eq_left r]; exact a.1
        · rw [Nat.min_eq_right r]; exact b.1, by omega⟩)
      rw [gp_bs_min ne] at this
      exact this
  · intro ⟨H, H1⟩ c hc hr
    have hr' := (gp_sj_root hf h1 h2 ne hc).mp hr
    by_cases x : c = min (f e.1) (f e.2)
    · rw [x, gp_bs_min ne]; exact H1
    · rw [gp_bs_off (by omega) (by omega)]
      exact H c hc hr'.1 (by omega) (by omega)
theorem gp_dsum {k : Nat} (hk : 1 ≤ k) (hk4 : k ≤ 4) (C : Prop) (A B : Int) : gp_su k (fun d => gp_in (C ∧ (A + (d : Int)) % (k : Int) = 0 ∧ (B - (d : Int)) % (k : Int) = 0)) = gp_in (C ∧ (A + B) % (k : Int) = 0) := by
  have hx : ∃ x : Nat, x < k ∧ (∀ d : Nat, d < k → ((A + (d : Int)) % (k : Int) = 0 ↔ x = d)) ∧ ((B - (x : Int)) % (k : Int) = 0 ↔ (A + B) % (k : Int) = 0) := by
    rcases (show k = 1 ∨ k = 2 ∨ k = 3 ∨ k = 4 by omega) with r | r | r | r <;> subst r
    · exact ⟨((-A) % 1).toNat, by omega, fun d hd => by omega, by omega⟩
    · exact ⟨((-A) % 2).toNat, by omega, fun d hd => by omega, by omega⟩
    · exact ⟨((-A) % 3).toNat, by omega, fun d hd => by omega, by omega⟩
    · exact ⟨((-A) % 4).toNat, by omega, fun d hd => by omega, by omega⟩
  obtain ⟨x, hx1, hx2, hx3⟩ := hx
  have e1 : gp_su k (fun d => gp_in (C ∧ (A + (d : Int)) % (k : Int) = 0 ∧ (B - (d : Int)) % (k : Int) = 0)) = gp_su k (fun d => (if x = d then 1 else 0) * gp_in (C ∧ (A + B) % (k : Int) = 0)) := by
    refine gp_su_congr (fun d hd => ?_)
    by_cases y : x = d
    · rw [if_pos y, Int.one_mul]
      subst y
      exact gp_in_iff ⟨fun r => ⟨r.1, hx3.mp r.2.2⟩, fun r => ⟨r.1, (hx2 x hd).mpr rfl, hx3.mpr r.2⟩⟩
    · rw [if_neg y, Int.zero_mul]
      exact gp_in_f (fun r => y ((hx2 d hd).mp r.2.1))
  rw [e1]
  exact gp_su_pick hx1 (fun _ => gp_in (C ∧ (A + B) % (k : Int) = 0))
def gp_N (k : Nat) : List (Nat × Nat) → (Nat → Nat) → Int
  | [], _ => 1
  | e :: L, f => if f e.1 = f e.2 then ((k - 1 : Nat) : Int) * gp_N k L f else gp_N k L (gp_sj f e) - gp_N k L f
theorem gp_F_N (n k : Nat) (hk : 1 ≤ k) (hk4 : k ≤ 4) (L : List (Nat × Nat)) : ∀ f, gp_ok n f → gp_es n L → gp_su ((k - 1) ^ L.length) (fun c => gp_in (gp_fo n k f (gp_fl (k - 1) L c (fun _ => 0)))) = gp_N k L f := by
  induction L with
  | nil =>
    intro f _ _
    simp only [List.length_nil, Nat.pow_zero, gp_su, gp_fl, gp_N]
    rw [gp_in_t]
    · rfl
    · intro c _ _
      have : gp_bs f (fun _ => 0) n c = 0 := by
        unfold gp_bs
        simp only [ite_self]
        rw [gp_su_const, Int.mul_zero]
      rw [this]; exact Int.zero_emod _
  | cons e L ih =>
    intro f hf he
    obtain ⟨⟨h1, h2⟩, hL⟩ := gp_es_cons he
    rw [List.length_cons, Nat.pow_succ, Nat.mul_comm, gp_su_blk]
    have e1 : gp_su ((k - 1) ^ L.length) (fun c => gp_su (k - 1) (fun d => gp_in (gp_fo n k f (gp_fl (k - 1) (e :: L) ((k - 1) * c + d) (fun _ => 0))))) = gp_su ((k - 1) ^ L.length) (fun c => gp_su (k - 1) (fun d => gp_in (gp_fo n k f (gp_ad (gp_fl (k - 1) L c (fun _ => 0)) e (1 + (d : Int)))))) := by
      refine gp_su_congr (fun c _ => gp_su_congr (fun d hd => ?_))
      simp only [gp_fl]
      rw [Nat.mul_add_div (by omega), Nat.div_eq_of_lt hd, Nat.add_zero, Nat.mul_add_mod, Nat.mod_eq_of_lt hd, gp_fl_ad]
    rw [e1]
    simp only [gp_N]
    by_cases n' : f e.1 = f e.2
    · rw [if_pos n', ← ih f hf hL, ← gp_su_mul]
      refine gp_su_congr (fun c _ => ?_)
      have e2 : gp_su (k - 1) (fun d => gp_in (gp_fo n k f (gp_ad (gp_fl (k - 1) L c (fun _ => 0)) e (1 + (d : Int))))) = gp_su (k - 1) (fun _ => gp_in (gp_fo n k f (gp_fl (k - 1) L c (fun _ => 0)))) := by
        refine gp_su_congr (fun d _ => gp_in_iff ?_)
        have hb : ∀ q, gp_bs f (gp_ad (gp_fl (k - 1) L c (fun _ => 0)) e (1 + (d : Int))) n q = gp_bs f (gp_fl (k - 1) L c (fun _ => 0)) n q := by
          intro q
          rw [gp_bs_ad h1 h2, n']
          omega
        unfold gp_fo
        constructor
        · intro H q hq hr
          rw [← hb q]; exact H q hq hr
        · intro H q hq hr
          rw [hb q]; exact H q hq hr
      rw [e2, gp_su_const]
    · rw [if_neg n', ← ih f hf hL, ← ih (gp_sj f e) (gp_ok_sj hf h1 h2) hL, ← gp_su_sub]
      refine gp_su_congr (fun c _ => ?_)
      generalize gp_fl (k - 1) L c (fun _ => 0) = S
      have e2 : gp_su k (fun d => gp_in (gp_fo n k f (gp_ad S e (d : Int)))) = gp_in (gp_fo n k (gp_sj f e) S) := by
        rw [gp_in_iff (gp_fo_sj hf h1 h2 n'), ← gp_dsum hk hk4]
        exact gp_su_congr (fun d _ => gp_in_iff (gp_fo_ad hf h1 h2 n'))
      have e3 : gp_su k (fun d => gp_in (gp_fo n k f (gp_ad S e (d : Int)))) = gp_in (gp_fo n k f S) + gp_su (k - 1) (fun d => gp_in (gp_fo n k f (gp_ad S e (1 + (d : Int))))) := by
        have h3 := gp_su_app 1 (k - 1) (fun d => gp_in (gp_fo n k f (gp_ad S e (d : Int))))
        rw [show 1 + (k - 1) = k by omega] at h3
        rw [h3]
        congr 1
        · simp only [gp_su]
          rw [show ((0 : Nat) : Int) = 0 from rfl, gp_ad_0, Int.zero_add]
      omega
theorem gp_flow (k t : Nat) (hk : 1 ≤ k) (L : List (Nat × Nat)) : ∀ (f : Nat → Nat) (r z : Nat), r + gp_rk L f ≤ t → gp_sm (fun r z => (-1 : Int) ^ (t - r) * (-(k : Int)) ^ z) L f r z = gp_sg (t - r + L.length) * ((-(k : Int)) ^ z * gp_N k L f) := by
  induction L with
  | nil =>
    intro f r z _
    simp only [gp_sm, gp_N, List.length_nil, Nat.add_zero]
    rw [gp_m1_pow, Int.mul_one]
  | cons e L ih =>
    intro f r z hr
    simp only [gp_sm, gp_N, List.length_cons]
    by_cases n' : f e.1 = f e.2
    · rw [gp_rk_loop n'] at hr
      rw [if_pos n', if_pos n', ih f r z hr, ih f r (z + 1) hr, ← Nat.add_assoc, gp_sg_1, Int.pow_succ, show ((k - 1 : Nat) : Int) = (k : Int) - 1 by omega]
      generalize gp_sg (t - r + L.length) = S
      generalize gp_N k L f = U
      generalize (-(k : Int)) ^ z = V
      generalize (k : Int) = w
      grind
    · have hd := gp_rk_drop e L f
      rw [gp_rk_tie n'] at hr hd
      rw [if_neg n', if_neg n', ih f r z (by omega), ih (gp_sj f e) (r + 1) z (by omega), ← Nat.add_assoc, gp_sg_1, show t - r + L.length = (t - (r + 1) + L.length) + 1 by omega, gp_sg_1]
      generalize gp_sg (t - (r + 1) + L.length) = S
      generalize gp_N k L f = U
      generalize gp_N k L (gp_sj f e) = V
      generalize (-(k : Int)) ^ z = w
      grind
theorem gp_bs_id {s : Nat → Int} {n c : Nat} (h : c < n) : gp_bs gp_id s n c = s c := by
  have : gp_bs gp_id s n c = gp_su n (fun p => (if c = p then 1 else 0) * s p) := by
    unfold gp_bs
    refine gp_su_congr (fun p _ => ?_)
    by_cases x : c = p
    · rw [if_pos x, if_pos (show gp_id p = c from x.symm), Int.one_mul]
    · rw [if_neg x, if_neg (show ¬ gp_id p = c from fun r => x r.symm), Int.zero_mul]
  rw [this, gp_su_pick h]
/-- the number of flows without a zero is the polynomial's value at 0, 1 - k, but for its sign -/
theorem gp_flows (n k : Nat) (hk : 1 ≤ k) (hk4 : k ≤ 4) (L : List (Nat × Nat)) (hL : gp_es n L) : ((gp_sc ((k - 1) ^ L.length) (fun c => ∀ u, u < n → gp_fl (k - 1) L c (fun _ => 0) u % (k : Int) = 0) : Nat) : Int) = gp_sg (gp_rk L gp_id + L.length) * gp_val 0 (1 - (k : Int)) L gp_id := by
  have e1 : ((gp_sc ((k - 1) ^ L.length) (fun c => ∀ u, u < n → gp_fl (k - 1) L c (fun _ => 0) u % (k : Int) = 0) : Nat) : Int) = gp_N k L gp_id := by
    rw [gp_sc_su, ← gp_F_N n k hk hk4 L gp_id (gp_ok_id n) hL]
    refine gp_su_congr (fun c _ => gp_in_iff ?_)
    constructor
    · intro H u hu _
      rw [gp_bs_id hu]; exact H u hu
    · intro H u hu
      have := H u hu rfl
      rw [gp_bs_id hu] at this
      exact this
  have hc := gp_flow k (gp_rk L gp_id) hk L gp_id 0 0 (by omega)
  rw [Int.pow_zero, Int.one_mul, Nat.sub_zero] at hc
  rw [e1]
  unfold gp_val
  rw [show (0 - 1 : Int) = -1 by omega, show (1 - (k : Int) - 1) = -(k : Int) by omega]
  exact gp_sgT hc (gp_sg_sq _)
/-! directions: labels that grow -/
def gp_rx (l : Nat → Nat) (d : Nat × Nat) : Nat → Nat := fun p => if p = d.1 ∧ l d.1 ≤ l d.2 then l d.2 + 1 else l p
def gp_rr (l : Nat → Nat) (O : List (Nat × Nat)) : Nat → Nat := O.foldl gp_rx l
def gp_rit : Nat → List (Nat × Nat) → (Nat → Nat)
  | 0, _ => fun _ => 0
  | k + 1, O => gp_rr (gp_rit k O) O
def gp_gr (r : Nat) (l : Nat → Nat) (e : Nat × Nat) : Prop := l e.2 < l e.1 ∨ r ≤ l e.2
theorem gp_rx_ge (l : Nat → Nat) (d : Nat × Nat) (p : Nat) : l p ≤ gp_rx l d p := by
  show l p ≤ if p = d.1 ∧ l d.1 ≤ l d.2 then l d.2 + 1 else l p
  split
  · rename_i h; rw [h.1]; omega
  · exact Nat.le_refl _
theorem gp_gr_rx {r s : Nat} {l : Nat → Nat} {d q : Nat × Nat} (hs : s ≤ r + 1) (hd : gp_gr r l d) (h : gp_gr s l q) : gp_gr s (gp_rx l d) q := by
  by_cases c : l d.1 ≤ l d.2
  · have hr : r ≤ l d.2 := by rcases hd with x | x <;> omega
    by_cases e : q.2 = d.1
    · right
      show s ≤ if q.2 = d.1 ∧ l d.1 ≤ l d.2 then l d.2 + 1 else l q.2
      rw [if_pos ⟨e, c⟩]; omega
    · have e2 : gp_rx l d q.2 = l q.2 := if_neg (fun x => e x.1)
      have e1 := gp_rx_ge l d q.1
      unfold gp_gr at h ⊢
      rw [e2]
      omega
  · have : gp_rx l d = l := by
      funext p
      exact if_neg (fun x => c x.2)
    rw [this]; exact h
theorem gp_gr_self {r : Nat} {l : Nat → Nat} {d : Nat × Nat} (hd : gp_gr r l d) : gp_gr (r + 1) (gp_rx l d) d := by
  by_cases c : l d.1 ≤ l d.2
  · have hr : r ≤ l d.2 := by rcases hd with x | x <;> omega
    have e1 : gp_rx l d d.1 = l d.2 + 1 := if_pos ⟨rfl, c⟩
    by_cases e : d.2 = d.1
    · right
      rw [e, e1]; omega
    · left
      have e2 : gp_rx l d d.2 = l d.2 := if_neg (fun x => e x.1)
      rw [e1, e2]; omega
  · have : gp_rx l d = l := by
      funext p
      exact if_neg (fun x => c x.2)
    rw [this]; left; omega
theorem gp_gr_rr {r : Nat} (O2 : List (Nat × Nat)) : ∀ (O1 : List (Nat × Nat)) (l : Nat → Nat), (∀ e ∈ O1, gp_gr (r + 1) l e) → (∀ e ∈ O2, gp_gr r l e) → ∀ e, (e ∈ O1 ∨ e ∈ O2) → gp_gr (r + 1) (gp_rr l O2) e := by
  induction O2 with
  | nil =>
    intro O1 l h1 _ e he
    rcases he with x | x
    · exact h1 e x
    · cases x
  | cons d O2 ih =>
    intro O1 l h1 h2 e he
    have hd := h2 d List.mem_cons_self
    refine ih (d :: O1) (gp_rx l d) (fun q hq => ?_) (fun q hq => gp_gr_rx (by omega) hd (h2 q (List.mem_cons_of_mem _ hq))) e ?_
    · rcases List.mem_cons.mp hq with x | x
      · rw [x]; exact gp_gr_self hd
      · exact gp_gr_rx (Nat.le_refl _) hd (h1 q x)
    · rcases he with x | x
      · exact Or.inl (List.mem_cons_of_mem _ x)
      · rcases List.mem_cons.mp x with y | y
        · rw [y]; exact Or.inl List.mem_cons_self
        · exact Or.inr y
theorem gp_gr_rit (O : List (Nat × Nat)) : ∀ k e, e ∈ O → gp_gr k (gp_rit k O) e := by
  intro k
  induction k with
  | zero => intro e _; right; exact Nat.zero_le _
  | succ k ih => intro e he; exact gp_gr_rr O [] (gp_rit k O) (fun q hq => by cases hq) ih e (Or.inr he)
theorem gp_rr_le {H : Nat → Nat} (O : List (Nat × Nat)) : ∀ l, (∀ e ∈ O, H e.2 < H e.1) → (∀ p, l p ≤ H p) → ∀ p, gp_rr l O p ≤ H p := by
  induction O with
  | nil => intro l _ h p; exact h p
  | cons d O ih =>
    intro l hO h p
    refine ih (gp_rx l d) (fun q hq => hO q (List.mem_cons_of_mem _ hq)) (fun p => ?_) p
    show (if p = d.1 ∧ l d.1 ≤ l d.2 then l d.2 + 1 else l p) ≤ H p
    split
    · rename_i x
      have a := h d.2
      have b := hO d List.mem_cons_self
      rw [x.1]; omega
    · exact h p
theorem gp_rit_le {H : Nat → Nat} (O : List (Nat × Nat)) (hO : ∀ e ∈ O, H e.2 < H e.1) : ∀ k p, gp_rit k O p ≤ H p := by
  intro k
  induction k with
  | zero => intro p; exact Nat.zero_le _
  | succ k ih => exact gp_rr_le O _ hO ih
theorem gp_rr_bd (O : List (Nat × Nat)) : ∀ (l : Nat → Nat) (B : Nat), (∀ p, l p ≤ B) → ∀ p, gp_rr l O p ≤ B + O.length := by
  induction O with
  | nil => intro l B h p; exact h p
  | cons d O ih =>
    intro l B h p
    have := ih (gp_rx l d) (B + 1) (fun p => by
      show (if p = d.1 ∧ l d.1 ≤ l d.2 then l d.2 + 1 else l p) ≤ B + 1
      have a := h d.2
      have b := h p
      split <;> omega) p
    rw [List.length_cons]
    show gp_rr (gp_rx l d) O p ≤ _
    omega
theorem gp_rit_bd (O : List (Nat × Nat)) : ∀ k p, gp_rit k O p ≤ k * O.length := by
  intro k
  induction k with
  | zero => intro p; exact Nat.zero_le _
  | succ k ih =>
    intro p
    have := gp_rr_bd O (gp_rit k O) (k * O.length) ih p
    rw [Nat.succ_mul]
    exact this
def gp_cn (h : Nat → Nat) (u : Nat) : Nat → Nat
  | 0 => 0
  | n + 1 => gp_cn h u n + (if h n < h u then 1 else 0)
theorem gp_cn_le (h : Nat → Nat) (u n : Nat) : gp_cn h u n ≤ n := by
  induction n with
  | zero => exact Nat.le_refl _
  | succ n ih => simp only [gp_cn]; split <;> omega
theorem gp_cn_lt {h : Nat → Nat} {u : Nat} : ∀ {n : Nat}, u < n → gp_cn h u n < n := by
  intro n
  induction n with
  | zero => intro q; omega
  | succ n ih =>
    intro q
    simp only [gp_cn]
    by_cases e : u = n
    · subst e
      have := gp_cn_le h u u
      rw [if_neg (by omega)]; omega
    · have := ih (by omega)
      split <;> omega
theorem gp_cn_mono {h : Nat → Nat} {u v : Nat} (hv : h v < h u) (n : Nat) : gp_cn h v n ≤ gp_cn h u n := by
  induction n with
  | zero => exact Nat.le_refl _
  | succ n ih => simp only [gp_cn]; split <;> split <;> omega
theorem gp_cn_st {h : Nat → Nat} {u v : Nat} (hv : h v < h u) : ∀ {n : Nat}, v < n → gp_cn h v n < gp_cn h u n := by
  intro n
  induction n with
  | zero => intro q; omega
  | succ n ih =>
    intro q
    simp only [gp_cn]
    by_cases e : v = n
    · subst e
      have := gp_cn_mono hv v
      rw [if_neg (by omega), if_pos hv]; omega
    · have := ih (by omega)
      split <;> split <;> omega
theorem gp_nocirc {n : Nat} {O : List (Nat × Nat)} (hO : gp_es n O) : (∀ u, u < n → gp_rit (n + 1) O u < n) ↔ gp_ac n gp_id O := by
  constructor
  · intro H
    refine ⟨gp_rit (n + 1) O, fun _ _ => rfl, fun e he => ?_⟩
    have h1 := hO e he
    have h2 := H e.2 h1.2
    rcases gp_gr_rit O (n + 1) e he with x | x
    · exact x
    · omega
  · intro ⟨h, _, hh⟩ u hu
    have hb : ∀ k, ∀ p, gp_rit k O p ≤ gp_cn h p n := by
      intro k
      exact gp_rit_le O (fun e he => gp_cn_st (hh e he) (hO e he).2) k
    exact Nat.lt_of_le_of_lt (hb (n + 1) u) (gp_cn_lt hu)
theorem gp_es_or {n : Nat} {L : List (Nat × Nat)} : gp_es n L → ∀ a, gp_es n (gp_or L a) := by
  induction L with
  | nil => intro h a; exact h
  | cons e L ih =>
    intro h a
    obtain ⟨⟨h1, h2⟩, hL⟩ := gp_es_cons h
    intro q hq
    simp only [gp_or] at hq
    rcases List.mem_cons.mp hq with x | x
    · split at x
      · rw [x]; exact ⟨h2, h1⟩
      · rw [x]; exact ⟨h1, h2⟩
    · exact ih hL _ q x
theorem gp_or_len (L : List (Nat × Nat)) : ∀ a, (gp_or L a).length = L.length := by
  induction L with
  | nil => intro a; rfl
  | cons e L ih => intro a; simp only [gp_or, List.length_cons]; rw [ih]
/-! counts of sets -/
theorem gp_zero_pow (j : Nat) : (0 : Int) ^ j = if j = 0 then 1 else 0 := by
  by_cases h : j = 0
  · rw [if_pos h, h]; rfl
  · rw [if_neg h]; exact Int.zero_pow h
theorem gp_cnt (full lean : Bool) (L : List (Nat × Nat)) : ((gp_sc (2 ^ L.length) (fun a => (full = true → gp_rk (gp_sel L a) gp_id = gp_rk L gp_id) ∧ (lean = true → (gp_sel L a).length = gp_rk (gp_sel L a) gp_id)) : Nat) : Int) = gp_val (if full then 1 else 2) (if lean then 1 else 2) L gp_id := by
  rw [gp_sc_su]
  unfold gp_val
  rw [← gp_su_sm]
  refine gp_su_congr (fun a _ => ?_)
  have h1 := gp_rk_sel L gp_id a
  have h2 := gp_rk_nl (gp_sel L a) gp_id
  have eX : ((if full then (1 : Int) else 2) - 1) ^ (gp_rk L gp_id - gp_rk (gp_sel L a) gp_id) = gp_in (full = true → gp_rk (gp_sel L a) gp_id = gp_rk L gp_id) := by
    cases full
    · rw [gp_in_t (fun h => by cases h)]
      exact gp_one_pow _
    · show (0 : Int) ^ _ = _
      rw [gp_zero_pow]
      by_cases c : gp_rk (gp_sel L a) gp_id = gp_rk L gp_id
      · rw [if_pos (by omega), gp_in_t (fun _ => c)]
      · rw [if_neg (by omega), gp_in_f (fun h => c (h rfl))]
  have eY : ((if lean then (1 : Int) else 2) - 1) ^ (gp_nl (gp_sel L a) gp_id) = gp_in (lean = true → (gp_sel L a).length = gp_rk (gp_sel L a) gp_id) := by
    cases lean
    · rw [gp_in_t (fun h => by cases h)]
      exact gp_one_pow _
    · show (0 : Int) ^ _ = _
      rw [gp_zero_pow]
      by_cases c : (gp_sel L a).length = gp_rk (gp_sel L a) gp_id
      · rw [if_pos (by omega), gp_in_t (fun _ => c)]
      · rw [if_neg (by omega), gp_in_f (fun h => c (h rfl))]
  rw [eX, eY]
  generalize (full = true → gp_rk (gp_sel L a) gp_id = gp_rk L gp_id) = P
  generalize (lean = true → (gp_sel L a).length = gp_rk (gp_sel L a) gp_id) = R
  by_cases p : P
  · by_cases r : R
    · rw [gp_in_t (P := P ∧ R) ⟨p, r⟩, gp_in_t p, gp_in_t r]; rfl
    · rw [gp_in_f (P := P ∧ R) (fun q => r q.2), gp_in_f r, Int.mul_zero]
  · rw [gp_in_f (P := P ∧ R) (fun q => p q.1), gp_in_f p, Int.zero_mul]
/-! coefficients of the reference -/
def gp_ch (a : Nat) : Nat → Nat
  | 0 => 1
  | k + 1 => gp_ch a k * (a - k) / (k + 1)
theorem gp_B_ch : ∀ a, a < 9 → ∀ i, i < 9 → i ≤ a → gp_B a 0 i = gp_sg (a - i) * (gp_ch a i : Int) := by decide +kernel
theorem gp_B_0 : ∀ a, a < 9 → ∀ i, i < 9 → a < i → gp_B a 0 i = 0 := by decide +kernel
theorem gp_ch_lt : ∀ a, a < 9 → ∀ i, i < 9 → gp_ch a i < 100 := by decide +kernel
/-- the reference's coefficient is the component's -/
theorem gp_coefs (L : List (Nat × Nat)) (hL : L.length < 9) {i j : Nat} (hj : j < 9) : gp_su (2 ^ L.length) (fun a => gp_B (gp_rk L gp_id - gp_rk (gp_sel L a) gp_id) 0 i * gp_B ((gp_sel L a).length - gp_rk (gp_sel L a) gp_id) 0 j) = ((gp_lc (9 * i + j) L gp_id 0 0 : Nat) : Int) := by
  rw [gp_coef i j hj L gp_id hL, ← gp_su_sm]
  refine gp_su_congr (fun a _ => ?_)
  have h2 := gp_rk_nl (gp_sel L a) gp_id
  rw [show (gp_sel L a).length - gp_rk (gp_sel L a) gp_id = gp_nl (gp_sel L a) gp_id by omega]
end
section
set_option maxRecDepth 100000
/-! points packed three bits each -/
def gp_pk (f : Nat → Nat) : Nat → Nat
  | 0 => 0
  | n + 1 => gp_pk f n + f n * 2 ^ (3 * n)
theorem gp_pk_lt {f : Nat → Nat} : ∀ {n : Nat}, (∀ p, p < n → f p < 8) → gp_pk f n < 2 ^ (3 * n) := by
  intro n
  induction n with
  | zero => intro _; exact Nat.one_pos
  | succ n ih =>
    intro h
    have h1 := ih (fun p hp => h p (by omega))
    have h2 := h n (by omega)
    simp only [gp_pk]
    rw [show 3 * (n + 1) = 3 * n + 3 by omega, Nat.pow_add]
    generalize 2 ^ (3 * n) = P at h1 ⊢
    have : f n * P ≤ 7 * P := Nat.mul_le_mul_right P (by omega)
    omega
theorem gp_pk_congr {f g : Nat → Nat} : ∀ {n : Nat}, (∀ p, p < n → f p = g p) → gp_pk f n = gp_pk g n := by
  intro n
  induction n with
  | zero => intro _; rfl
  | succ n ih => intro h; simp only [gp_pk]; rw [ih (fun p hp => h p (by omega)), h n (by omega)]
theorem gp_pk_get {f : Nat → Nat} {q : Nat} : ∀ {n : Nat}, (∀ p, p < n → f p < 8) → q < n → gp_pk f n / 2 ^ (3 * q) % 8 = f q := by
  intro n
  induction n with
  | zero => intro _ h; omega
  | succ n ih =>
    intro h hq
    have h0 := gp_pk_lt (n := n) (fun p hp => h p (by omega))
    have hn := h n (by omega)
    simp only [gp_pk]
    by_cases e : q = n
    · subst e
      rw [Nat.mul_comm, Nat.add_comm, Nat.mul_add_div (Nat.pow_pos (by decide)), Nat.div_eq_of_lt h0]
      omega
    · have h1 := ih (fun p hp => h p (by omega)) (by omega)
      have e2 : f n * 2 ^ (3 * n) = 2 ^ (3 * q) * (8 * (f n * 2 ^ (3 * (n - q - 1)))) := by
        rw [show 3 * n = 3 * q + 3 + 3 * (n - q - 1) by omega, Nat.pow_add, Nat.pow_add]
        generalize 2 ^ (3 * q) = A
        generalize 2 ^ (3 * (n - q - 1)) = B
        grind
      rw [e2, Nat.add_comm, Nat.mul_add_div (Nat.pow_pos (by decide)), Nat.mul_add_mod, h1]
theorem gp_pk_18 {f : Nat → Nat} {n : Nat} (hn : n ≤ 6) (h : ∀ p, p < n → f p < 8) : gp_pk f n < 262144 := by
  have := gp_pk_lt h
  have h2 : 2 ^ (3 * n) ≤ 2 ^ 18 := Nat.pow_le_pow_right (by decide) (by omega)
  omega
theorem gp_pow_le {i : Nat} (h : i ≤ 5) : 2 ^ (3 * i) ≤ 32768 := by
  have h2 : 2 ^ (3 * i) ≤ 2 ^ 15 := Nat.pow_le_pow_right (by decide) (by omega)
  omega
theorem m1_pointOf (u : S1) {P q : Nat} (hP : P < 2147483648) (hq : q < 8) : C1_pointOf [.int (nI P), .int (nI q)] u (fun r u' => u' = u ∧ r = nI (P / 2 ^ (3 * q) % 8)) := by
  refine Mi.start (by decide +kernel) rfl rfl (fun X a d h ret => ?_)
  have h : Ok X cX1_pointOf RX1 (t1 d) 0 0 := h
  show JJ X (w1 a d u) [some (.ref (a 0)), some (.int (nI P)), some (.int (nI q))] 0 []
  refine x_iload_n h dX1_pointOf_0 rfl ?_
  refine x_iconst (nI 3) h dX1_pointOf_1 (by decide) ?_
  refine x_iload_n h dX1_pointOf_2 rfl ?_
  refine y_imul h dX1_pointOf_3 ?_
  refine y_ishr h dX1_pointOf_4 (by omega) (by omega) ?_
  refine x_bipush (nI 7) h dX1_pointOf_5 (by decide) ?_
  refine y_iand7 h dX1_pointOf_7 (Nat.lt_of_le_of_lt (Nat.div_le_self _ _) (by omega)) ?_
  exact ret _ _ _ _ dX1_pointOf_8 rfl ⟨rfl, rfl⟩
theorem m1_startPoints {n : Nat} {ec : Int32} {fe se : Nat → Int32} {rd : Int32} {te : Nat → Int32} {wt : Int32} {wE wP wX wY : Nat → Int32} (hn : n ≤ 6) : C1_startPoints [] (nI n, ec, fe, se, rd, te, wt, wE, wP, wX, wY) (fun r u' => u' = (nI n, ec, fe, se, rd, te, wt, wE, wP, wX, wY) ∧ r = nI (gp_pk gp_id n)) := by
  refine Mi.start (by decide +kernel) rfl rfl (fun X a d h ret => ?_)
  have h : Ok X cX1_startPoints RX1 (t1 d) 0 0 := h
  show JJ X (w1 a d (nI n, ec, fe, se, rd, te, wt, wE, wP, wX, wY)) [some (.ref (a 0)), none, none] 0 []
  refine x_iconst (nI 0) h dX1_startPoints_0 (by decide) ?_
  refine is_3_1 h dX1_startPoints_1 rfl ?_
  refine x_iconst (nI 0) h dX1_startPoints_2 (by decide) ?_
  refine is_3_2 h dX1_startPoints_3 rfl ?_
  have loop : ∀ (k i : Nat), i ≤ n → n + 1 ≤ i + k → JJ X (w1 a d (nI n, ec, fe, se, rd, te, wt, wE, wP, wX, wY)) [some (.ref (a 0)), some (.int (nI (gp_pk gp_id i))), some (.int (nI i))] 4 [] := by
    intro k
    induction k with
    | zero => intro i h1 h2; omega
    | succ k ih =>
      intro i h1 h2
      refine x_iload_n h dX1_startPoints_4 rfl ?_
      refine x_aload_n h dX1_startPoints_5 rfl ?_
      refine g1_n h dX1_startPoints_6 ?_
      refine y_icmp_ge 26 h dX1_startPoints_9 (by decide) (by omega) (by omega) (fun c => ?_) (fun c => ?_)
      · refine x_iload_n h dX1_startPoints_26 rfl ?_
        have : i = n := by omega
        subst this
        exact ret _ _ _ _ dX1_startPoints_27 rfl ⟨rfl, rfl⟩
      · have hp := gp_pow_le (i := i) (by omega)
        refine x_iload_n h dX1_startPoints_12 rfl ?_
        refine x_iload_n h dX1_startPoints_13 rfl ?_
        refine x_iconst (nI 3) h dX1_startPoints_14 (by decide) ?_
        refine x_iload_n h dX1_startPoints_15 rfl ?_
        refine y_imul h dX1_startPoints_16 ?_
        refine y_ishl h dX1_startPoints_17 (by omega) (Nat.lt_of_le_of_lt (Nat.mul_le_mul (show i ≤ 5 by omega) hp) (by decide)) ?_
        refine y_ior h dX1_startPoints_18 (gp_pk_lt (fun p hp => show p < 8 by omega)) ?_
        refine is_3_1 h dX1_startPoints_19 rfl ?_
        refine ic_3_2 h dX1_startPoints_20 rfl ?_
        refine x_goto 4 h dX1_startPoints_23 (by decide) ?_
        exact ih (i + 1) (by omega) (by omega)
  exact loop (n + 1) 0 (by omega) (by omega)
end
section
set_option maxRecDepth 100000
/-- the graph's edges as the arrays hold them -/
def gE (n : Nat) (es : List (Nat × Nat)) (fe se : Nat → Int32) : Prop := ∀ (j : Nat) (e : Nat × Nat), es[j]? = some e → fe j = nI e.1 ∧ se j = nI e.2 ∧ e.1 < n ∧ e.2 < n
theorem gE_es {n : Nat} {es : List (Nat × Nat)} {fe se : Nat → Int32} (h : gE n es fe se) : gp_es n es := by
  intro e he
  obtain ⟨j, hj⟩ := List.getElem?_of_mem he
  exact (h j e hj).2.2
theorem gE_at {n : Nat} {es : List (Nat × Nat)} {fe se : Nat → Int32} (h : gE n es fe se) {i : Nat} (hi : i < es.length) : ∃ e, es[i]? = some e ∧ fe i = nI e.1 ∧ se i = nI e.2 ∧ e.1 < n ∧ e.2 < n ∧ es.take (i + 1) = es.take i ++ [e] := by
  refine ⟨es[i], List.getElem?_eq_getElem hi, ?_⟩
  have := h i _ (List.getElem?_eq_getElem hi)
  exact ⟨this.1, this.2.1, this.2.2.1, this.2.2.2, by rw [List.take_add_one, List.getElem?_eq_getElem hi]; rfl⟩
theorem gp_sel_snoc (L : List (Nat × Nat)) (e : Nat × Nat) : ∀ a, gp_sel (L ++ [e]) a = gp_sel L a ++ (if a / 2 ^ L.length % 2 = 1 then [e] else []) := by
  induction L with
  | nil =>
    intro a
    simp only [List.nil_append, gp_sel, List.length_nil, Nat.pow_zero, Nat.div_one]
  | cons q L ih =>
    intro a
    simp only [List.cons_append, gp_sel, List.length_cons]
    have e1 : a / 2 / 2 ^ L.length = a / 2 ^ (L.length + 1) := by rw [Nat.div_div_eq_div_mul, Nat.pow_succ, Nat.mul_comm]
    simp only [ih, e1]
    split <;> rfl
theorem gp_dr_snoc (f : Nat → Nat) (A : List (Nat × Nat)) (e : Nat × Nat) : gp_dr f (A ++ [e]) = gp_sj (gp_dr f A) e := by
  unfold gp_dr
  rw [List.foldl_append]; rfl
theorem gp_es_take {n : Nat} {es : List (Nat × Nat)} (h : gp_es n es) (i : Nat) : gp_es n (es.take i) := fun e he => h e (List.mem_of_mem_take he)
theorem gp_take_len {es : List (Nat × Nat)} {i : Nat} (h : i < es.length) : (es.take i).length = i := by rw [List.length_take]; omega
theorem gp_ok8 {n : Nat} {f : Nat → Nat} (hn : n ≤ 6) (h : gp_ok n f) : ∀ p, p < n → f p < 8 := fun p hp => by have := (h p hp).2; omega
theorem m1_joined {n : Nat} {ec : Int32} {fe se : Nat → Int32} {rd : Int32} {te : Nat → Int32} {wt : Int32} {wE wP wX wY : Nat → Int32} (hn : n ≤ 6) {f : Nat → Nat} (hf : ∀ p, p < n → f p < 8) {x y : Nat} (hx : x < 8) (hy : y < 8) : C1_joined [.int (nI (gp_pk f n)), .int (nI x), .int (nI y)] (nI n, ec, fe, se, rd, te, wt, wE, wP, wX, wY) (fun r u' => u' = (nI n, ec, fe, se, rd, te, wt, wE, wP, wX, wY) ∧ r = nI (gp_pk (fun p => gp_ph x y (f p)) n)) := by
  refine Mi.start (by decide +kernel) rfl rfl (fun X a d h ret => ?_)
  have h : Ok X cX1_joined RX1 (t1 d) 0 0 := h
  have hP := gp_pk_18 hn hf
  show JJ X (w1 a d (nI n, ec, fe, se, rd, te, wt, wE, wP, wX, wY)) [some (.ref (a 0)), some (.int (nI (gp_pk f n))), some (.int (nI x)), some (.int (nI y)), none, none, none, none, none] 0 []
  have loop : ∀ (k i : Nat) (o : Option Value), i ≤ n → n + 1 ≤ i + k → JJ X (w1 a d (nI n, ec, fe, se, rd, te, wt, wE, wP, wX, wY)) [some (.ref (a 0)), some (.int (nI (gp_pk f n))), some (.int (nI x)), some (.int (nI y)), some (.int (nI (min x y))), some (.int (nI (max x y))), some (.int (nI (gp_pk (fun p => gp_ph x y (f p)) i))), some (.int (nI i)), o] 30 [] := by
    intro k
    induction k with
    | zero => intro i o h1 h2; omega
    | succ k ih =>
      intro i o h1 h2
      refine x_iload h dX1_joined_30 rfl ?_
      refine x_aload_n h dX1_joined_32 rfl ?_
      refine g1_n h dX1_joined_33 ?_
      refine y_icmp_ge 80 h dX1_joined_36 (by decide) (by omega) (by omega) (fun c => ?_) (fun c => ?_)
      · refine x_iload h dX1_joined_80 rfl ?_
        have : i = n := by omega
        subst this
        exact ret _ _ _ _ dX1_joined_82 rfl ⟨rfl, rfl⟩
      · have hp := gp_pow_le (i := i) (by omega)
        have hfi := hf i c
        refine x_iload_n h dX1_joined_39 rfl ?_
        refine x_iconst (nI 3) h dX1_joined_40 (by decide) ?_
        refine x_iload h dX1_joined_41 rfl ?_
        refine y_imul h dX1_joined_43 ?_
        refine y_ishr h dX1_joined_44 (by omega) (by omega) ?_
        refine x_bipush (nI 7) h dX1_joined_45 (by decide) ?_
        refine y_iand7 h dX1_joined_47 (Nat.lt_of_le_of_lt (Nat.div_le_self _ _) (by omega)) ?_
        refine x_top (v := nI (f i)) (by rw [gp_pk_get hf c]) ?_
        refine is_9_8 h dX1_joined_48 rfl ?_
        have hph : gp_ph x y (f i) < 8 := Nat.lt_of_le_of_lt (gp_ph_le _ _ _) hfi
        have t66 : JJ X (w1 a d (nI n, ec, fe, se, rd, te, wt, wE, wP, wX, wY)) [some (.ref (a 0)), some (.int (nI (gp_pk f n))), some (.int (nI x)), some (.int (nI y)), some (.int (nI (min x y))), some (.int (nI (max x y))), some (.int (nI (gp_pk (fun p => gp_ph x y (f p)) i))), some (.int (nI i)), some (.int (nI (f i)))] 66 [.int (nI (gp_ph x y (f i))), .int (nI (gp_pk (fun p => gp_ph x y (f p)) i))] := by
          refine x_iconst (nI 3) h dX1_joined_66 (by decide) ?_
          refine x_iload h dX1_joined_67 rfl ?_
          refine y_imul h dX1_joined_69 ?_
          refine y_ishl h dX1_joined_70 (by omega) (Nat.lt_of_le_of_lt (Nat.mul_le_mul (show gp_ph x y (f i) ≤ 7 by omega) hp) (by decide)) ?_
          refine y_ior h dX1_joined_71 (gp_pk_lt (fun p hp => Nat.lt_of_le_of_lt (gp_ph_le _ _ _) (hf p (by omega)))) ?_
          refine is_9_6 h dX1_joined_72 rfl ?_
          refine ic_9_7 h dX1_joined_74 rfl ?_
          refine x_goto 30 h dX1_joined_77 (by decide) ?_
          exact ih (i + 1) _ (by omega) (by omega)
        refine x_iload h dX1_joined_50 rfl ?_
        refine x_iload h dX1_joined_52 rfl ?_
        refine x_iload h dX1_joined_54 rfl ?_
        refine y_icmp_ne 64 h dX1_joined_56 (by decide) (by omega) (by omega) (fun c => ?_) (fun c => ?_)
        · refine x_iload h dX1_joined_64 rfl ?_
          refine x_top (v := nI (gp_ph x y (f i))) (by rw [show gp_ph x y (f i) = f i from if_neg c]) ?_
          exact t66
        · refine x_iload h dX1_joined_59 rfl ?_
          refine x_top (v := nI (gp_ph x y (f i))) (by rw [show gp_ph x y (f i) = min x y from if_pos c]) ?_
          refine x_goto 66 h dX1_joined_61 (by decide) ?_
          exact t66
  have t22 : JJ X (w1 a d (nI n, ec, fe, se, rd, te, wt, wE, wP, wX, wY)) [some (.ref (a 0)), some (.int (nI (gp_pk f n))), some (.int (nI x)), some (.int (nI y)), some (.int (nI (min x y))), none, none, none, none] 22 [.int (nI (max x y))] := by
    refine is_9_5 h dX1_joined_22 rfl ?_
    refine x_iconst (nI 0) h dX1_joined_24 (by decide) ?_
    refine is_9_6 h dX1_joined_25 rfl ?_
    refine x_iconst (nI 0) h dX1_joined_27 (by decide) ?_
    refine is_9_7 h dX1_joined_28 rfl ?_
    exact loop (n + 1) 0 none (by omega) (by omega)
  have t10 : JJ X (w1 a d (nI n, ec, fe, se, rd, te, wt, wE, wP, wX, wY)) [some (.ref (a 0)), some (.int (nI (gp_pk f n))), some (.int (nI x)), some (.int (nI y)), none, none, none, none, none] 10 [.int (nI (min x y))] := by
    refine is_9_4 h dX1_joined_10 rfl ?_
    refine x_iload_n h dX1_joined_12 rfl ?_
    refine x_iload_n h dX1_joined_13 rfl ?_
    refine y_icmp_ge 21 h dX1_joined_14 (by decide) (by omega) (by omega) (fun c => ?_) (fun c => ?_)
    · refine x_iload_n h dX1_joined_21 rfl ?_
      refine x_top (v := nI (max x y)) (by congr 1; omega) ?_
      exact t22
    · refine x_iload_n h dX1_joined_17 rfl ?_
      refine x_top (v := nI (max x y)) (by congr 1; omega) ?_
      refine x_goto 22 h dX1_joined_18 (by decide) ?_
      exact t22
  refine x_iload_n h dX1_joined_0 rfl ?_
  refine x_iload_n h dX1_joined_1 rfl ?_
  refine y_icmp_ge 9 h dX1_joined_2 (by decide) (by omega) (by omega) (fun c => ?_) (fun c => ?_)
  · refine x_iload_n h dX1_joined_9 rfl ?_
    refine x_top (v := nI (min x y)) (by congr 1; omega) ?_
    exact t10
  · refine x_iload_n h dX1_joined_5 rfl ?_
    refine x_top (v := nI (min x y)) (by congr 1; omega) ?_
    refine x_goto 10 h dX1_joined_6 (by decide) ?_
    exact t10
theorem m1_drawnTogether {n : Nat} {fe se : Nat → Int32} {rd : Int32} {te : Nat → Int32} {wt : Int32} {wE wP wX wY : Nat → Int32} (hn : n ≤ 6) {es : List (Nat × Nat)} (hes : gE n es fe se) (hm : es.length ≤ 8) {f : Nat → Nat} (hf : gp_ok n f) {E : Nat} (hE : E < 256) : C1_drawnTogether [.int (nI E), .int (nI (gp_pk f n))] (nI n, nI es.length, fe, se, rd, te, wt, wE, wP, wX, wY) (fun r u' => u' = (nI n, nI es.length, fe, se, rd, te, wt, wE, wP, wX, wY) ∧ r = nI (gp_pk (gp_dr f (gp_sel es E)) n)) := by
  refine Mi.start (by decide +kernel) rfl rfl (fun X a d h ret => ?_)
  have h : Ok X cX1_drawnTogether RX1 (t1 d) 1 28 := h
  show JJ X (w1 a d (nI n, nI es.length, fe, se, rd, te, wt, wE, wP, wX, wY)) [some (.ref (a 0)), some (.int (nI E)), some (.int (nI (gp_pk f n))), none, none, none, none] 0 []
  have loop : ∀ (k i : Nat) (o1 o2 : Option Value), i ≤ es.length → es.length + 1 ≤ i + k → JJ X (w1 a d (nI n, nI es.length, fe, se, rd, te, wt, wE, wP, wX, wY)) [some (.ref (a 0)), some (.int (nI E)), some (.int (nI (gp_pk f n))), some (.int (nI (gp_pk (gp_dr f (gp_sel (es.take i) E)) n))), some (.int (nI i)), o1, o2] 5 [] := by
    intro k
    induction k with
    | zero => intro i o1 o2 h1 h2; omega
    | succ k ih =>
      intro i o1 o2 h1 h2
      have hg := (gp_cc_dr n _ f hf (gp_es_sel (gp_es_take (gE_es hes) i) E)).1
      have hg8 := gp_ok8 hn hg
      have hP := gp_pk_18 hn hg8
      refine x_iload h dX1_drawnTogether_5 rfl ?_
      refine x_aload_n h dX1_drawnTogether_7 rfl ?_
      refine g1_ec h dX1_drawnTogether_8 ?_
      refine y_icmp_ge 77 h dX1_drawnTogether_11 (by decide) (by omega) (by omega) (fun c => ?_) (fun c => ?_)
      · refine x_iload_n h dX1_drawnTogether_77 rfl ?_
        have : i = es.length := by omega
        subst this
        exact ret _ _ _ _ dX1_drawnTogether_78 rfl ⟨rfl, by rw [List.take_length]⟩
      · obtain ⟨e, he, hfe, hse, he1, he2, htk⟩ := gE_at hes c
        have hsn : gp_sel (es.take (i + 1)) E = gp_sel (es.take i) E ++ (if E / 2 ^ i % 2 = 1 then [e] else []) := by
          rw [htk, gp_sel_snoc, gp_take_len c]
        refine x_iload_n h dX1_drawnTogether_14 rfl ?_
        refine x_iload h dX1_drawnTogether_15 rfl ?_
        refine y_ishr h dX1_drawnTogether_17 (by omega) (by omega) ?_
        refine x_iconst (nI 1) h dX1_drawnTogether_18 (by decide) ?_
        refine y_iand1 h dX1_drawnTogether_19 (Nat.lt_of_le_of_lt (Nat.div_le_self _ _) (by omega)) ?_
        have t71 : ∀ o1 o2 : Option Value, JJ X (w1 a d (nI n, nI es.length, fe, se, rd, te, wt, wE, wP, wX, wY)) [some (.ref (a 0)), some (.int (nI E)), some (.int (nI (gp_pk f n))), some (.int (nI (gp_pk (gp_dr f (gp_sel (es.take (i + 1)) E)) n))), some (.int (nI i)), o1, o2] 71 [] := by
          intro o1 o2
          refine ic_7_4 h dX1_drawnTogether_71 rfl ?_
          refine x_goto 5 h dX1_drawnTogether_74 (by decide) ?_
          exact ih (i + 1) _ _ (by omega) (by omega)
        refine y_if_ne 26 h dX1_drawnTogether_20 (by decide) (by omega) (fun c => ?_) (fun c => ?_)
        · rw [if_pos (by omega), ] at hsn
          have hdr : gp_dr f (gp_sel (es.take (i + 1)) E) = gp_sj (gp_dr f (gp_sel (es.take i) E)) e := by rw [hsn, gp_dr_snoc]
          generalize gp_dr f (gp_sel (es.take i) E) = g at hg hg8 hP hdr ⊢
          refine x_aload_n h dX1_drawnTogether_26 rfl ?_
          refine x_iload_n h dX1_drawnTogether_27 rfl ?_
          refine x_aload_n h dX1_drawnTogether_28 rfl ?_
          refine g1_fe h dX1_drawnTogether_29 ?_
          refine x_iload h dX1_drawnTogether_32 rfl ?_
          refine l1_fe h dX1_drawnTogether_34 (by omega) ?_
          rw [hfe]
          refine k1_pointOf h dX1_drawnTogether_35 (m1_pointOf _ (by omega) (by omega)) (by decide) (by decide) (Nat.le_of_ble_eq_true rfl) (fun r u' hp => ?_)
          obtain ⟨rfl, rfl⟩ := hp
          rw [gp_pk_get hg8 he1]
          refine is_7_5 h dX1_drawnTogether_38 rfl ?_
          refine x_aload_n h dX1_drawnTogether_40 rfl ?_
          refine x_iload_n h dX1_drawnTogether_41 rfl ?_
          refine x_aload_n h dX1_drawnTogether_42 rfl ?_
          refine g1_se h dX1_drawnTogether_43 ?_
          refine x_iload h dX1_drawnTogether_46 rfl ?_
          refine l1_se h dX1_drawnTogether_48 (by omega) ?_
          rw [hse]
          refine k1_pointOf h dX1_drawnTogether_49 (m1_pointOf _ (by omega) (by omega)) (by decide) (by decide) (Nat.le_of_ble_eq_true rfl) (fun r u' hp => ?_)
          obtain ⟨rfl, rfl⟩ := hp
          rw [gp_pk_get hg8 he2]
          have b1 := hg8 e.1 he1
          have b2 := hg8 e.2 he2
          refine is_7_6 h dX1_drawnTogether_52 rfl ?_
          refine x_iload h dX1_drawnTogether_54 rfl ?_
          refine x_iload h dX1_drawnTogether_56 rfl ?_
          refine y_icmp_eq 71 h dX1_drawnTogether_58 (by decide) (by omega) (by omega) (fun c => ?_) (fun c => ?_)
          · rw [hdr, gp_sj_loop c] at t71
            exact t71 _ _
          · refine x_aload_n h dX1_drawnTogether_61 rfl ?_
            refine x_iload_n h dX1_drawnTogether_62 rfl ?_
            refine x_iload h dX1_drawnTogether_63 rfl ?_
            refine x_iload h dX1_drawnTogether_65 rfl ?_
            refine k1_joined h dX1_drawnTogether_67 (m1_joined hn hg8 b1 b2) (by decide) (by decide) (Nat.le_of_ble_eq_true rfl) (fun r u' hp => ?_)
            obtain ⟨rfl, rfl⟩ := hp
            refine is_7_3 h dX1_drawnTogether_70 rfl ?_
            rw [hdr] at t71
            exact t71 _ _
        · rw [if_neg (by omega), List.append_nil] at hsn
          rw [hsn] at t71
          refine x_goto 71 h dX1_drawnTogether_23 (by decide) ?_
          exact t71 _ _
  refine x_iload_n h dX1_drawnTogether_0 rfl ?_
  refine is_7_3 h dX1_drawnTogether_1 rfl ?_
  refine x_iconst (nI 0) h dX1_drawnTogether_2 (by decide) ?_
  refine is_7_4 h dX1_drawnTogether_3 rfl ?_
  exact loop (es.length + 1) 0 _ _ (by omega) (by omega)
end
section
set_option maxRecDepth 100000
theorem n_i2s : ∀ E, E < 256 → (nI E).toInt16.toInt32 = nI E := by decide +kernel
theorem n_i2b : ∀ x, x < 128 → (nI x).toInt8.toInt32 = nI x := by decide +kernel
theorem n_nb {x : Nat} (h : x < 128) : vp_nar .byte (nI x) = nI x := by rw [vp_nar_byte]; exact n_i2b x h
theorem n_ns {x : Nat} (h : x < 256) : vp_nar .short (nI x) = nI x := by rw [vp_nar_short]; exact n_i2s x h
theorem n_low : ∀ E, E < 256 → ∀ b, b < 8 → E / 2 ^ b % 2 = 1 → nI E &&& (nI (1 * 2 ^ b) ^^^ (-1)) = nI (E - 2 ^ b) := by decide +kernel
theorem gp_pow8 {m : Nat} (h : m ≤ 8) : 2 ^ m ≤ 256 ∧ 1 ≤ 2 ^ m := ⟨Nat.le_trans (Nat.pow_le_pow_right (by decide) h) (by decide), Nat.pow_pos (by decide)⟩
theorem gp_sel_all (L : List (Nat × Nat)) : gp_sel L (2 ^ L.length - 1) = L := by
  induction L with
  | nil => rfl
  | cons e L ih =>
    have h1 : 1 ≤ 2 ^ L.length := Nat.pow_pos (by decide)
    have h2 : 2 ^ (e :: L).length = 2 * 2 ^ L.length := by rw [List.length_cons, Nat.pow_succ, Nat.mul_comm]
    simp only [gp_sel]
    rw [h2, if_pos (by omega), show (2 * 2 ^ L.length - 1) / 2 = 2 ^ L.length - 1 by omega, ih]
theorem gp_low_bit : ∀ (m E : Nat), E ≠ 0 → E < 2 ^ m → ∃ b, b < m ∧ E / 2 ^ b % 2 = 1 ∧ ∀ j, j < b → E / 2 ^ j % 2 = 0 := by
  intro m
  induction m with
  | zero => intro E h0 h; simp only [Nat.pow_zero] at h; omega
  | succ m ih =>
    intro E h0 h
    by_cases o : E % 2 = 1
    · exact ⟨0, by omega, by rw [Nat.pow_zero, Nat.div_one]; exact o, fun j hj => by omega⟩
    · rw [Nat.pow_succ] at h
      obtain ⟨b, b1, b2, b3⟩ := ih (E / 2) (by omega) (by omega)
      refine ⟨b + 1, by omega, ?_, fun j hj => ?_⟩
      · rw [Nat.pow_succ, Nat.mul_comm, ← Nat.div_div_eq_div_mul]; exact b2
      · cases j with
        | zero => rw [Nat.pow_zero, Nat.div_one]; omega
        | succ j => rw [Nat.pow_succ, Nat.mul_comm, ← Nat.div_div_eq_div_mul]; exact b3 j (by omega)
theorem gp_bit_le {E b : Nat} (h : E / 2 ^ b % 2 = 1) : 2 ^ b ≤ E := by
  apply Classical.byContradiction
  intro q
  rw [Nat.div_eq_of_lt (by omega)] at h
  omega
theorem gp_sel_low (L : List (Nat × Nat)) : ∀ (E b : Nat) (e : Nat × Nat), L[b]? = some e → E / 2 ^ b % 2 = 1 → (∀ j, j < b → E / 2 ^ j % 2 = 0) → gp_sel L E = e :: gp_sel L (E - 2 ^ b) := by
  induction L with
  | nil => intro E b e h; simp at h
  | cons q L ih =>
    intro E b e he h1 h2
    have hle := gp_bit_le h1
    cases b with
    | zero =>
      simp only [List.getElem?_cons_zero, Option.some.injEq] at he
      rw [Nat.pow_zero, Nat.div_one] at h1
      simp only [gp_sel, Nat.pow_zero]
      rw [if_pos h1, if_neg (by omega), he, show (E - 1) / 2 = E / 2 by omega]
    | succ b =>
      simp only [List.getElem?_cons_succ] at he
      have h0 := h2 0 (by omega)
      rw [Nat.pow_zero, Nat.div_one] at h0
      rw [Nat.pow_succ] at hle
      have e1 : E / 2 / 2 ^ b % 2 = 1 := by rw [Nat.div_div_eq_div_mul, Nat.mul_comm, ← Nat.pow_succ]; exact h1
      have e2 : ∀ j, j < b → E / 2 / 2 ^ j % 2 = 0 := fun j hj => by rw [Nat.div_div_eq_div_mul, Nat.mul_comm, ← Nat.pow_succ]; exact h2 (j + 1) (by omega)
      have i := ih (E / 2) b e he e1 e2
      simp only [gp_sel]
      rw [if_neg (by omega), if_neg (by rw [Nat.pow_succ]; omega), i, show (E - 2 ^ (b + 1)) / 2 = E / 2 - 2 ^ b by rw [Nat.pow_succ]; omega]
theorem m1_edges {n ec : Int32} {fe se : Nat → Int32} {rd : Int32} {te : Nat → Int32} {wt : Int32} {wE wP wX wY : Nat → Int32} : C1_edges [] (n, ec, fe, se, rd, te, wt, wE, wP, wX, wY) (fun r u' => u' = (n, ec, fe, se, rd, te, wt, wE, wP, wX, wY) ∧ r = ec) := by
  refine Mi.start (by decide +kernel) rfl rfl (fun X a d h ret => ?_)
  have h : Ok X cX1_edges RX1 (t1 d) 0 0 := h
  show JJ X (w1 a d (n, ec, fe, se, rd, te, wt, wE, wP, wX, wY)) [some (.ref (a 0))] 0 []
  refine x_aload_n h dX1_edges_0 rfl ?_
  refine g1_ec h dX1_edges_1 ?_
  exact ret _ _ _ _ dX1_edges_4 rfl ⟨rfl, rfl⟩
theorem m1_push {n ec : Int32} {fe se : Nat → Int32} {rd : Int32} {te : Nat → Int32} {w : Nat} {wE wP wX wY : Nat → Int32} (hw : w < 12) {E P x y : Nat} (hE : E < 256) (hx : x < 128) (hy : y < 128) : C1_push [.int (nI E), .int (nI P), .int (nI x), .int (nI y)] (n, ec, fe, se, rd, te, nI w, wE, wP, wX, wY) (fun u' => u' = (n, ec, fe, se, rd, te, nI (w + 1), upd wE w (nI E), upd wP w (nI P), upd wX w (nI x), upd wY w (nI y))) := by
  refine Mv.start (by decide +kernel) rfl rfl (fun X a d h ret => ?_)
  have h : Ok X cX1_push RX1 (t1 d) 0 0 := h
  show JJ X (w1 a d (n, ec, fe, se, rd, te, nI w, wE, wP, wX, wY)) [some (.ref (a 0)), some (.int (nI E)), some (.int (nI P)), some (.int (nI x)), some (.int (nI y))] 0 []
  refine x_aload_n h dX1_push_0 rfl ?_
  refine g1_wE h dX1_push_1 ?_
  refine x_aload_n h dX1_push_4 rfl ?_
  refine g1_wt h dX1_push_5 ?_
  refine x_iload_n h dX1_push_8 rfl ?_
  refine x_i2s (nI E) h dX1_push_9 (n_i2s E hE) ?_
  refine a1_wE (nI E) h dX1_push_10 hw (n_ns hE) ?_
  refine x_aload_n h dX1_push_11 rfl ?_
  refine g1_wP h dX1_push_12 ?_
  refine x_aload_n h dX1_push_15 rfl ?_
  refine g1_wt h dX1_push_16 ?_
  refine x_iload_n h dX1_push_19 rfl ?_
  refine a1_wP h dX1_push_20 (by omega) ?_
  refine x_aload_n h dX1_push_21 rfl ?_
  refine g1_wX h dX1_push_22 ?_
  refine x_aload_n h dX1_push_25 rfl ?_
  refine g1_wt h dX1_push_26 ?_
  refine x_iload_n h dX1_push_29 rfl ?_
  refine x_i2b (nI x) h dX1_push_30 (n_i2b x hx) ?_
  refine a1_wX (nI x) h dX1_push_31 hw (n_nb hx) ?_
  refine x_aload_n h dX1_push_32 rfl ?_
  refine g1_wY h dX1_push_33 ?_
  refine x_aload_n h dX1_push_36 rfl ?_
  refine g1_wt h dX1_push_37 ?_
  refine x_iload h dX1_push_40 rfl ?_
  refine x_i2b (nI y) h dX1_push_42 (n_i2b y hy) ?_
  refine a1_wY (nI y) h dX1_push_43 hw (n_nb hy) ?_
  refine x_aload_n h dX1_push_44 rfl ?_
  refine x_dup h dX1_push_45 rfl ?_
  refine g1_wt h dX1_push_46 ?_
  refine x_iconst (nI 1) h dX1_push_49 (by decide) ?_
  refine y_iadd h dX1_push_50 ?_
  refine p1_wt h dX1_push_51 ?_
  exact ret _ _ _ dX1_push_54 rfl
theorem m1_parts {n : Nat} {fe se : Nat → Int32} {rd : Int32} {te : Nat → Int32} {wt : Int32} {wE wP wX wY : Nat → Int32} (hn : n ≤ 6) {es : List (Nat × Nat)} (hes : gE n es fe se) (hm : es.length ≤ 8) : C1_parts [] (nI n, nI es.length, fe, se, rd, te, wt, wE, wP, wX, wY) (fun r u' => u' = (nI n, nI es.length, fe, se, rd, te, wt, wE, wP, wX, wY) ∧ r = nI (gp_cc (gp_dr gp_id es) n)) := by
  refine Mi.start (by decide +kernel) rfl rfl (fun X a d h ret => ?_)
  have h : Ok X cX1_parts RX1 (t1 d) 2 54 := h
  show JJ X (w1 a d (nI n, nI es.length, fe, se, rd, te, wt, wE, wP, wX, wY)) [some (.ref (a 0)), none, none, none] 0 []
  have hp8 := gp_pow8 hm
  have hg := (gp_cc_dr n es gp_id (gp_ok_id n) (gE_es hes)).1
  have hg8 := gp_ok8 hn hg
  have hP := gp_pk_18 hn hg8
  have loop : ∀ (k i : Nat), i ≤ n → n + 1 ≤ i + k → JJ X (w1 a d (nI n, nI es.length, fe, se, rd, te, wt, wE, wP, wX, wY)) [some (.ref (a 0)), some (.int (nI (gp_pk (gp_dr gp_id es) n))), some (.int (nI (gp_cc (gp_dr gp_id es) i))), some (.int (nI i))] 23 [] := by
    intro k
    induction k with
    | zero => intro i h1 h2; omega
    | succ k ih =>
      intro i h1 h2
      refine x_iload_n h dX1_parts_23 rfl ?_
      refine x_aload_n h dX1_parts_24 rfl ?_
      refine g1_n h dX1_parts_25 ?_
      refine y_icmp_ge 52 h dX1_parts_28 (by decide) (by omega) (by omega) (fun c => ?_) (fun c => ?_)
      · refine x_iload_n h dX1_parts_52 rfl ?_
        have : i = n := by omega
        subst this
        exact ret _ _ _ _ dX1_parts_53 rfl ⟨rfl, rfl⟩
      · have hfi := hg8 i c
        refine x_iload_n h dX1_parts_31 rfl ?_
        refine x_iconst (nI 3) h dX1_parts_32 (by decide) ?_
        refine x_iload_n h dX1_parts_33 rfl ?_
        refine y_imul h dX1_parts_34 ?_
        refine y_ishr h dX1_parts_35 (by omega) (by omega) ?_
        refine x_bipush (nI 7) h dX1_parts_36 (by decide) ?_
        refine y_iand7 h dX1_parts_38 (Nat.lt_of_le_of_lt (Nat.div_le_self _ _) (by omega)) ?_
        refine x_top (v := nI (gp_dr gp_id es i)) (by rw [gp_pk_get hg8 c]) ?_
        refine x_iload_n h dX1_parts_39 rfl ?_
        refine y_icmp_ne 46 h dX1_parts_40 (by decide) (by omega) (by omega) (fun c => ?_) (fun c => ?_)
        · refine ic_4_3 h dX1_parts_46 rfl ?_
          refine x_goto 23 h dX1_parts_49 (by decide) ?_
          have hh := ih (i + 1) (by omega) (by omega)
          rw [show gp_cc (gp_dr gp_id es) (i + 1) = gp_cc (gp_dr gp_id es) i by simp only [gp_cc]; rw [if_neg c, Nat.add_zero]] at hh
          exact hh
        · refine ic_4_2 h dX1_parts_43 rfl ?_
          refine ic_4_3 h dX1_parts_46 rfl ?_
          refine x_goto 23 h dX1_parts_49 (by decide) ?_
          have hh := ih (i + 1) (by omega) (by omega)
          rw [show gp_cc (gp_dr gp_id es) (i + 1) = gp_cc (gp_dr gp_id es) i + 1 by simp only [gp_cc]; rw [if_pos c]] at hh
          exact hh
  refine x_aload_n h dX1_parts_0 rfl ?_
  refine k1_startPoints h dX1_parts_1 (m1_startPoints hn) (by decide) (by decide) (Nat.le_of_ble_eq_true rfl) (fun r u' hp => ?_)
  obtain ⟨rfl, rfl⟩ := hp
  refine is_4_1 h dX1_parts_4 rfl ?_
  refine x_aload_n h dX1_parts_5 rfl ?_
  refine x_iconst (nI 1) h dX1_parts_6 (by decide) ?_
  refine x_aload_n h dX1_parts_7 rfl ?_
  refine g1_ec h dX1_parts_8 ?_
  refine y_ishl h dX1_parts_11 (by omega) (by omega) ?_
  rw [Nat.one_mul]
  refine x_iconst (nI 1) h dX1_parts_12 (by decide) ?_
  refine y_isub h dX1_parts_13 (by omega) ?_
  refine x_iload_n h dX1_parts_14 rfl ?_
  refine k1_drawnTogether h dX1_parts_15 (m1_drawnTogether hn hes hm (gp_ok_id n) (by omega)) (by decide) (by decide) (Nat.le_of_ble_eq_true rfl) (fun r u' hp => ?_)
  obtain ⟨rfl, rfl⟩ := hp
  rw [gp_sel_all]
  refine is_4_1 h dX1_parts_18 rfl ?_
  refine x_iconst (nI 0) h dX1_parts_19 (by decide) ?_
  refine is_4_2 h dX1_parts_20 rfl ?_
  refine x_iconst (nI 0) h dX1_parts_21 (by decide) ?_
  refine is_4_3 h dX1_parts_22 rfl ?_
  exact loop (n + 1) 0 (by omega) (by omega)
end
section
set_option maxRecDepth 100000
/-! the stack of graphs that wait: (edges left, labels, x, y) -/
abbrev gp_I : Type := Nat × (Nat → Nat) × Nat × Nat
def gp_il (es : List (Nat × Nat)) (c : Nat) (t : gp_I) : Nat := gp_lc c (gp_sel es t.1) t.2.1 t.2.2.1 t.2.2.2
def gp_ils (es : List (Nat × Nat)) (c : Nat) : List gp_I → Nat
  | [] => 0
  | t :: l => gp_il es c t + gp_ils es c l
def gp_iok (n : Nat) (es : List (Nat × Nat)) (t : gp_I) : Prop := gp_ok n t.2.1 ∧ t.1 < 2 ^ es.length ∧ t.2.2.1 + t.2.2.2 + (gp_sel es t.1).length ≤ 8
def gp_stk (n : Nat) (its : List gp_I) (wE wP wX wY : Nat → Int32) : Prop := ∀ (k : Nat) (t : gp_I), its[k]? = some t → wE k = nI t.1 ∧ wP k = nI (gp_pk t.2.1 n) ∧ wX k = nI t.2.2.1 ∧ wY k = nI t.2.2.2
theorem gp_ils_app (es : List (Nat × Nat)) (c : Nat) (a b : List gp_I) : gp_ils es c (a ++ b) = gp_ils es c a + gp_ils es c b := by
  induction a with
  | nil => simp only [List.nil_append, gp_ils]; omega
  | cons t a ih => simp only [List.cons_append, gp_ils]; rw [ih]; omega
theorem gp_stk_push {n : Nat} {its : List gp_I} {wE wP wX wY : Nat → Int32} (h : gp_stk n its wE wP wX wY) (t : gp_I) : gp_stk n (its ++ [t]) (upd wE its.length (nI t.1)) (upd wP its.length (nI (gp_pk t.2.1 n))) (upd wX its.length (nI t.2.2.1)) (upd wY its.length (nI t.2.2.2)) := by
  intro k q hk
  by_cases e : k = its.length
  · subst e
    rw [List.getElem?_append_right (Nat.le_refl _), Nat.sub_self, List.getElem?_cons_zero] at hk
    injection hk with hk
    subst hk
    exact ⟨pk_us, pk_us, pk_us, pk_us⟩
  · have hlt : k < its.length := by
      have := (List.getElem?_eq_some_iff.mp hk).1
      rw [List.length_append, List.length_cons, List.length_nil] at this
      omega
    rw [List.getElem?_append_left hlt] at hk
    have hh := h k q hk
    rw [pk_un e, pk_un e, pk_un e, pk_un e]
    exact hh
/-- what working off the graph t leaves: new graphs that wait, new numbers of leaves -/
def gp_left (n : Nat) (es : List (Nat × Nat)) (t : gp_I) (T T' : Nat → Nat) (new : List gp_I) : Prop := new.length ≤ 2 ∧ (∀ q ∈ new, gp_iok n es q ∧ (gp_sel es q.1).length + 1 ≤ (gp_sel es t.1).length) ∧ ∀ c, c < 81 → T' c + gp_ils es c new = T c + gp_il es c t
theorem m1_workOff {n : Nat} {fe se : Nat → Int32} {rd : Int32} {te : Nat → Int32} {wE wP wX wY : Nat → Int32} (hn : n ≤ 6) {es : List (Nat × Nat)} (hes : gE n es fe se) (hm : es.length ≤ 8) {its : List gp_I} (hw : its.length ≤ 10) (hst : gp_stk n its wE wP wX wY) {T : Nat → Nat} (hT : ∀ c, c < 81 → te c = nI (T c)) {E : Nat} {f : Nat → Nat} {x y : Nat} (hok : gp_iok n es (E, f, x, y)) :
    C1_workOff [.int (nI E), .int (nI (gp_pk f n)), .int (nI x), .int (nI y)] (nI n, nI es.length, fe, se, rd, te, nI its.length, wE, wP, wX, wY) (fun u' => ∃ (te' wE' wP' wX' wY' : Nat → Int32) (T' : Nat → Nat) (new : List gp_I), u' = (nI n, nI es.length, fe, se, rd, te', nI (its ++ new).length, wE', wP', wX', wY') ∧ gp_stk n (its ++ new) wE' wP' wX' wY' ∧ (∀ c, c < 81 → te' c = nI (T' c)) ∧ gp_left n es (E, f, x, y) T T' new) := by
  obtain ⟨hf, hE, hxy⟩ := hok
  simp only [] at hf hE hxy
  have hp8 := gp_pow8 hm
  have hf8 := gp_ok8 hn hf
  have hP := gp_pk_18 hn hf8
  refine Mv.start (by decide +kernel) rfl rfl (fun X a d h ret => ?_)
  have h : Ok X cX1_workOff RX1 (t1 d) 2 54 := h
  show JJ X (w1 a d (nI n, nI es.length, fe, se, rd, te, nI its.length, wE, wP, wX, wY)) [some (.ref (a 0)), some (.int (nI E)), some (.int (nI (gp_pk f n))), some (.int (nI x)), some (.int (nI y)), none, none, none, none, none, none] 0 []
  refine x_iload_n h dX1_workOff_0 rfl ?_
  refine y_if_ne 21 h dX1_workOff_1 (by decide) (by omega) (fun c => ?_) (fun c => ?_)
  · obtain ⟨b, hb1, hb2, hb3⟩ := gp_low_bit es.length E c hE
    obtain ⟨e, he, hfe, hse, he1, he2, -⟩ := gE_at hes hb1
    have hsel := gp_sel_low es E b e he hb2 hb3
    have hble := gp_bit_le hb2
    have hlow := n_low E (by omega) b (by omega) hb2
    have hlen : (gp_sel es E).length = (gp_sel es (E - 2 ^ b)).length + 1 := by rw [hsel]; rfl
    have hR : E - 2 ^ b < 256 := Nat.lt_of_le_of_lt (Nat.sub_le _ _) (by omega)
    have hR2 : E - 2 ^ b < 2 ^ es.length := Nat.lt_of_le_of_lt (Nat.sub_le _ _) hE
    have hbp : 2 ^ b ≤ 256 := (gp_pow8 (show b ≤ 8 by omega)).1
    have loop : ∀ (k i : Nat), i ≤ b → b + 1 ≤ i + k → JJ X (w1 a d (nI n, nI es.length, fe, se, rd, te, nI its.length, wE, wP, wX, wY)) [some (.ref (a 0)), some (.int (nI E)), some (.int (nI (gp_pk f n))), some (.int (nI x)), some (.int (nI y)), some (.int (nI i)), none, none, none, none, none] 24 [] := by
      intro k
      induction k with
      | zero => intro i h1 h2; omega
      | succ k ih =>
        intro i h1 h2
        refine x_iload_n h dX1_workOff_24 rfl ?_
        refine x_iload h dX1_workOff_25 rfl ?_
        refine y_ishr h dX1_workOff_27 (by omega) (by omega) ?_
        refine x_iconst (nI 1) h dX1_workOff_28 (by decide) ?_
        refine y_iand1 h dX1_workOff_29 (Nat.lt_of_le_of_lt (Nat.div_le_self _ _) (by omega)) ?_
        refine y_if_ne 39 h dX1_workOff_30 (by decide) (by omega) (fun c => ?_) (fun c => ?_)
        · have hib : i = b := by
            apply Classical.byContradiction
            intro q
            exact c (hb3 i (by omega))
          subst hib
          clear ih
          refine x_iload_n h dX1_workOff_39 rfl ?_
          refine x_iconst (nI 1) h dX1_workOff_40 (by decide) ?_
          refine x_iload h dX1_workOff_41 rfl ?_
          refine y_ishl h dX1_workOff_43 (by omega) (by omega) ?_
          refine x_iconst (-1) h dX1_workOff_44 (by decide) ?_
          refine x_ixor h dX1_workOff_45 ?_
          refine x_iand h dX1_workOff_46 ?_
          rw [hlow]
          refine is_11_6 h dX1_workOff_47 rfl ?_
          refine x_aload_n h dX1_workOff_49 rfl ?_
          refine x_iload_n h dX1_workOff_50 rfl ?_
          refine x_aload_n h dX1_workOff_51 rfl ?_
          refine g1_fe h dX1_workOff_52 ?_
          refine x_iload h dX1_workOff_55 rfl ?_
          refine l1_fe h dX1_workOff_57 (by omega) ?_
          rw [hfe]
          refine k1_pointOf h dX1_workOff_58 (m1_pointOf _ (by omega) (by omega)) (by decide) (by decide) (Nat.le_of_ble_eq_true rfl) (fun r u' hp => ?_)
          obtain ⟨rfl, rfl⟩ := hp
          rw [gp_pk_get hf8 he1]
          refine is_11_7 h dX1_workOff_61 rfl ?_
          refine x_aload_n h dX1_workOff_63 rfl ?_
          refine x_iload_n h dX1_workOff_64 rfl ?_
          refine x_aload_n h dX1_workOff_65 rfl ?_
          refine g1_se h dX1_workOff_66 ?_
          refine x_iload h dX1_workOff_69 rfl ?_
          refine l1_se h dX1_workOff_71 (by omega) ?_
          rw [hse]
          refine k1_pointOf h dX1_workOff_72 (m1_pointOf _ (by omega) (by omega)) (by decide) (by decide) (Nat.le_of_ble_eq_true rfl) (fun r u' hp => ?_)
          obtain ⟨rfl, rfl⟩ := hp
          rw [gp_pk_get hf8 he2]
          have b1 := hf8 e.1 he1
          have b2 := hf8 e.2 he2
          have hsj := gp_ok_sj hf he1 he2
          refine is_11_8 h dX1_workOff_75 rfl ?_
          refine x_iload h dX1_workOff_77 rfl ?_
          refine x_iload h dX1_workOff_79 rfl ?_
          refine y_icmp_ne 97 h dX1_workOff_81 (by decide) (by omega) (by omega) (fun c0 => ?_) (fun c0 => ?_)
          · refine x_aload_n h dX1_workOff_97 rfl ?_
            refine x_iload_n h dX1_workOff_98 rfl ?_
            refine x_iload h dX1_workOff_99 rfl ?_
            refine x_iload h dX1_workOff_101 rfl ?_
            refine k1_joined h dX1_workOff_103 (m1_joined hn hf8 b1 b2) (by decide) (by decide) (Nat.le_of_ble_eq_true rfl) (fun r u' hp => ?_)
            obtain ⟨rfl, rfl⟩ := hp
            refine is_11_9 h dX1_workOff_106 rfl ?_
            refine x_aload_n h dX1_workOff_108 rfl ?_
            refine x_iload h dX1_workOff_109 rfl ?_
            refine x_iload_n h dX1_workOff_111 rfl ?_
            refine k1_drawnTogether h dX1_workOff_112 (m1_drawnTogether hn hes hm hf (by omega)) (by decide) (by decide) (Nat.le_of_ble_eq_true rfl) (fun r u' hp => ?_)
            obtain ⟨rfl, rfl⟩ := hp
            have hd := (gp_cc_dr n _ f hf (gp_es_sel (gE_es hes) (E - 2 ^ i))).1
            have hd8 := gp_ok8 hn hd
            have hdP := gp_pk_18 hn hd8
            have d1 := hd8 e.1 he1
            have d2 := hd8 e.2 he2
            refine is_11_10 h dX1_workOff_115 rfl ?_
            refine x_aload_n h dX1_workOff_117 rfl ?_
            refine x_iload h dX1_workOff_118 rfl ?_
            refine x_aload_n h dX1_workOff_120 rfl ?_
            refine g1_fe h dX1_workOff_121 ?_
            refine x_iload h dX1_workOff_124 rfl ?_
            refine l1_fe h dX1_workOff_126 (by omega) ?_
            rw [hfe]
            refine k1_pointOf h dX1_workOff_127 (m1_pointOf _ (by omega) (by omega)) (by decide) (by decide) (Nat.le_of_ble_eq_true rfl) (fun r u' hp => ?_)
            obtain ⟨rfl, rfl⟩ := hp
            rw [gp_pk_get hd8 he1]
            refine x_aload_n h dX1_workOff_130 rfl ?_
            refine x_iload h dX1_workOff_131 rfl ?_
            refine x_aload_n h dX1_workOff_133 rfl ?_
            refine g1_se h dX1_workOff_134 ?_
            refine x_iload h dX1_workOff_137 rfl ?_
            refine l1_se h dX1_workOff_139 (by omega) ?_
            rw [hse]
            refine k1_pointOf h dX1_workOff_140 (m1_pointOf _ (by omega) (by omega)) (by decide) (by decide) (Nat.le_of_ble_eq_true rfl) (fun r u' hp => ?_)
            obtain ⟨rfl, rfl⟩ := hp
            rw [gp_pk_get hd8 he2]
            refine y_icmp_eq 160 h dX1_workOff_143 (by decide) (by omega) (by omega) (fun c1 => ?_) (fun c1 => ?_)
            · refine x_aload_n h dX1_workOff_160 rfl ?_
              refine x_iload h dX1_workOff_161 rfl ?_
              refine x_iload_n h dX1_workOff_163 rfl ?_
              refine x_iload_n h dX1_workOff_164 rfl ?_
              refine x_iload h dX1_workOff_165 rfl ?_
              refine k1_push h dX1_workOff_167 (m1_push (by omega) (by omega) (by omega) (by omega)) (by decide) (by decide) (Nat.le_of_ble_eq_true rfl) (fun u' hp => ?_)
              subst hp
              refine x_aload_n h dX1_workOff_170 rfl ?_
              refine x_iload h dX1_workOff_171 rfl ?_
              refine x_iload h dX1_workOff_173 rfl ?_
              refine x_iload_n h dX1_workOff_175 rfl ?_
              refine x_iload h dX1_workOff_176 rfl ?_
              refine k1_push h dX1_workOff_178 (m1_push (by omega) (by omega) (by omega) (by omega)) (by decide) (by decide) (Nat.le_of_ble_eq_true rfl) (fun u' hp => ?_)
              subst hp
              refine ret _ _ _ dX1_workOff_181 ⟨te, upd (upd wE its.length (nI (E - 2 ^ i))) (its.length + 1) (nI (E - 2 ^ i)), upd (upd wP its.length (nI (gp_pk f n))) (its.length + 1) (nI (gp_pk (gp_sj f e) n)), upd (upd wX its.length (nI x)) (its.length + 1) (nI x), upd (upd wY its.length (nI y)) (its.length + 1) (nI y), T, [(E - 2 ^ i, f, x, y), (E - 2 ^ i, gp_sj f e, x, y)], ?_, ?_, hT, ?_⟩
              · rw [List.length_append]; rfl
              · have s1 := gp_stk_push hst (E - 2 ^ i, f, x, y)
                have s2 := gp_stk_push s1 (E - 2 ^ i, gp_sj f e, x, y)
                rw [List.append_assoc, List.length_append] at s2
                exact s2
              · refine ⟨Nat.le_refl _, fun q hq => ?_, fun c hc => ?_⟩
                · simp only [List.mem_cons, List.not_mem_nil, or_false] at hq
                  rcases hq with hq | hq
                  · subst hq
                    exact ⟨⟨hf, hR2, by show x + y + (gp_sel es (E - 2 ^ i)).length ≤ 8; omega⟩, by show (gp_sel es (E - 2 ^ i)).length + 1 ≤ (gp_sel es E).length; omega⟩
                  · subst hq
                    exact ⟨⟨hsj, hR2, by show x + y + (gp_sel es (E - 2 ^ i)).length ≤ 8; omega⟩, by show (gp_sel es (E - 2 ^ i)).length + 1 ≤ (gp_sel es E).length; omega⟩
                · show T c + (gp_lc c (gp_sel es (E - 2 ^ i)) f x y + (gp_lc c (gp_sel es (E - 2 ^ i)) (gp_sj f e) x y + 0)) = T c + gp_lc c (gp_sel es E) f x y
                  rw [hsel]
                  simp only [gp_lc]
                  rw [if_neg c0, if_pos c1]; rfl
            · refine x_aload_n h dX1_workOff_146 rfl ?_
              refine x_iload h dX1_workOff_147 rfl ?_
              refine x_iload h dX1_workOff_149 rfl ?_
              refine x_iload_n h dX1_workOff_151 rfl ?_
              refine x_iconst (nI 1) h dX1_workOff_152 (by decide) ?_
              refine y_iadd h dX1_workOff_153 ?_
              refine x_iload h dX1_workOff_154 rfl ?_
              refine k1_push h dX1_workOff_156 (m1_push (by omega) (by omega) (by omega) (by omega)) (by decide) (by decide) (Nat.le_of_ble_eq_true rfl) (fun u' hp => ?_)
              subst hp
              refine ret _ _ _ dX1_workOff_159 ⟨te, upd wE its.length (nI (E - 2 ^ i)), upd wP its.length (nI (gp_pk (gp_sj f e) n)), upd wX its.length (nI (x + 1)), upd wY its.length (nI y), T, [(E - 2 ^ i, gp_sj f e, x + 1, y)], ?_, ?_, hT, ?_⟩
              · rw [List.length_append]; rfl
              · exact gp_stk_push hst (E - 2 ^ i, gp_sj f e, x + 1, y)
              · refine ⟨by show 1 ≤ 2; decide, fun q hq => ?_, fun c hc => ?_⟩
                · simp only [List.mem_cons, List.not_mem_nil, or_false] at hq
                  subst hq
                  exact ⟨⟨hsj, hR2, by show x + 1 + y + (gp_sel es (E - 2 ^ i)).length ≤ 8; omega⟩, by show (gp_sel es (E - 2 ^ i)).length + 1 ≤ (gp_sel es E).length; omega⟩
                · show T c + (gp_lc c (gp_sel es (E - 2 ^ i)) (gp_sj f e) (x + 1) y + 0) = T c + gp_lc c (gp_sel es E) f x y
                  rw [hsel]
                  simp only [gp_lc]
                  rw [if_neg c0, if_neg c1]; rfl
          · refine x_aload_n h dX1_workOff_84 rfl ?_
            refine x_iload h dX1_workOff_85 rfl ?_
            refine x_iload_n h dX1_workOff_87 rfl ?_
            refine x_iload_n h dX1_workOff_88 rfl ?_
            refine x_iload h dX1_workOff_89 rfl ?_
            refine x_iconst (nI 1) h dX1_workOff_91 (by decide) ?_
            refine y_iadd h dX1_workOff_92 ?_
            refine k1_push h dX1_workOff_93 (m1_push (by omega) (by omega) (by omega) (by omega)) (by decide) (by decide) (Nat.le_of_ble_eq_true rfl) (fun u' hp => ?_)
            subst hp
            refine ret _ _ _ dX1_workOff_96 ⟨te, upd wE its.length (nI (E - 2 ^ i)), upd wP its.length (nI (gp_pk f n)), upd wX its.length (nI x), upd wY its.length (nI (y + 1)), T, [(E - 2 ^ i, f, x, y + 1)], ?_, ?_, hT, ?_⟩
            · rw [List.length_append]; rfl
            · exact gp_stk_push hst (E - 2 ^ i, f, x, y + 1)
            · refine ⟨by show 1 ≤ 2; decide, fun q hq => ?_, fun c hc => ?_⟩
              · simp only [List.mem_cons, List.not_mem_nil, or_false] at hq
                subst hq
                exact ⟨⟨hf, hR2, by show x + (y + 1) + (gp_sel es (E - 2 ^ i)).length ≤ 8; omega⟩, by show (gp_sel es (E - 2 ^ i)).length + 1 ≤ (gp_sel es E).length; omega⟩
              · show T c + (gp_lc c (gp_sel es (E - 2 ^ i)) f x (y + 1) + 0) = T c + gp_lc c (gp_sel es E) f x y
                rw [hsel]
                simp only [gp_lc]
                rw [if_pos c0]; rfl
        · have hib : i ≠ b := by
            intro q
            rw [q] at c
            omega
          refine ic_11_5 h dX1_workOff_33 rfl ?_
          refine x_goto 24 h dX1_workOff_36 (by decide) ?_
          exact ih (i + 1) (by omega) (by omega)
    refine x_iconst (nI 0) h dX1_workOff_21 (by decide) ?_
    refine is_11_5 h dX1_workOff_22 rfl ?_
    exact loop (b + 1) 0 (by omega) (by omega)
  · subst c
    have hsel0 : ∀ L : List (Nat × Nat), gp_sel L 0 = [] := by
      intro L
      induction L with
      | nil => rfl
      | cons q L ih => simp only [gp_sel]; exact ih
    refine x_aload_n h dX1_workOff_4 rfl ?_
    refine g1_te h dX1_workOff_5 ?_
    refine x_bipush (nI 9) h dX1_workOff_8 (by decide) ?_
    refine x_iload_n h dX1_workOff_10 rfl ?_
    refine y_imul h dX1_workOff_11 ?_
    refine x_iload h dX1_workOff_12 rfl ?_
    refine y_iadd h dX1_workOff_14 ?_
    refine x_dup2 h dX1_workOff_15 rfl rfl ?_
    refine l1_te h dX1_workOff_16 (by omega) ?_
    rw [hT _ (by omega)]
    refine x_iconst (nI 1) h dX1_workOff_17 (by decide) ?_
    refine y_iadd h dX1_workOff_18 ?_
    refine a1_te h dX1_workOff_19 (by omega) ?_
    refine ret _ _ _ dX1_workOff_20 ⟨upd te (9 * x + y) (nI (T (9 * x + y) + 1)), wE, wP, wX, wY, fun c => if c = 9 * x + y then T c + 1 else T c, [], ?_, ?_, ?_, ?_⟩
    · rw [List.append_nil]
    · rw [List.append_nil]; exact hst
    · intro c hc
      show (if c = 9 * x + y then _ else te c) = nI (if c = 9 * x + y then T c + 1 else T c)
      by_cases q : c = 9 * x + y
      · rw [if_pos q, if_pos q, q]
      · rw [if_neg q, if_neg q]; exact hT c hc
    · refine ⟨by show 0 ≤ 2; decide, fun q hq => (by cases hq), fun c hc => ?_⟩
      show (if c = 9 * x + y then T c + 1 else T c) + 0 = T c + gp_lc c (gp_sel es 0) f x y
      rw [hsel0]
      simp only [gp_lc]
      by_cases q : c = 9 * x + y
      · rw [if_pos q, if_pos q.symm]
      · rw [if_neg q, if_neg (fun r => q r.symm)]
end
section
set_option maxRecDepth 100000
/-- the component's state: the graph es on n points; if ready, the terms are the polynomial -/
def G1 (n : Nat) (es : List (Nat × Nat)) (u : S1) : Prop := ∃ (fe se : Nat → Int32) (rd : Int32) (te : Nat → Int32) (wt : Int32) (wE wP wX wY : Nat → Int32), u = (nI n, nI es.length, fe, se, rd, te, wt, wE, wP, wX, wY) ∧ gE n es fe se ∧ (rd = 0 ∨ (rd = 1 ∧ ∀ c, c < 81 → te c = nI (gp_lc c es gp_id 0 0))) ∧ n ≤ 6 ∧ 1 ≤ n ∧ es.length ≤ 8
def G1r (n : Nat) (es : List (Nat × Nat)) (u : S1) : Prop := ∃ (fe se : Nat → Int32) (te : Nat → Int32) (wt : Int32) (wE wP wX wY : Nat → Int32), u = (nI n, nI es.length, fe, se, 1, te, wt, wE, wP, wX, wY) ∧ gE n es fe se ∧ (∀ c, c < 81 → te c = nI (gp_lc c es gp_id 0 0)) ∧ n ≤ 6 ∧ 1 ≤ n ∧ es.length ≤ 8
theorem G1r.G1 {n : Nat} {es : List (Nat × Nat)} {u : S1} (h : G1r n es u) : G1 n es u := by
  obtain ⟨fe, se, te, wt, wE, wP, wX, wY, rfl, h1, h2, h3⟩ := h
  exact ⟨fe, se, 1, te, wt, wE, wP, wX, wY, rfl, h1, Or.inr ⟨rfl, h2⟩, h3⟩
def gp_mu (es : List (Nat × Nat)) : List gp_I → Nat
  | [] => 0
  | t :: l => (2 ^ ((gp_sel es t.1).length + 1) - 1) + gp_mu es l
theorem gp_mu_app (es : List (Nat × Nat)) (a b : List gp_I) : gp_mu es (a ++ b) = gp_mu es a + gp_mu es b := by
  induction a with
  | nil => simp only [List.nil_append, gp_mu]; omega
  | cons t a ih => simp only [List.cons_append, gp_mu]; rw [ih]; omega
theorem gp_mu_new {n : Nat} {es : List (Nat × Nat)} {t : gp_I} {T T' : Nat → Nat} {new : List gp_I} (h : gp_left n es t T T' new) : gp_mu es new < 2 ^ ((gp_sel es t.1).length + 1) - 1 := by
  obtain ⟨h1, h2, -⟩ := h
  have hp : ∀ j, 1 ≤ 2 ^ j := fun j => Nat.pow_pos (by decide)
  have key : ∀ q ∈ new, 2 ^ ((gp_sel es q.1).length + 1) ≤ 2 ^ (gp_sel es t.1).length := fun q hq => Nat.pow_le_pow_right (by decide) (h2 q hq).2
  have h0 := hp (gp_sel es t.1).length
  rw [Nat.pow_succ]
  match new, h1, key with
  | [], _, _ => simp only [gp_mu]; omega
  | [q], _, key =>
    have k1 := key q List.mem_cons_self
    simp only [gp_mu]; omega
  | [q, r], _, key =>
    have k1 := key q List.mem_cons_self
    have k2 := key r (List.mem_cons_of_mem _ List.mem_cons_self)
    have p1 := hp ((gp_sel es q.1).length + 1)
    have p2 := hp ((gp_sel es r.1).length + 1)
    simp only [gp_mu]; omega
  | q :: r :: s :: l, h1, _ => simp only [List.length_cons] at h1; omega
theorem m1_findPolynomial {n : Nat} {es : List (Nat × Nat)} {u : S1} (hu : G1 n es u) : C1_findPolynomial [] u (fun u' => G1r n es u') := by
  obtain ⟨fe, se, rd, te, wt, wE, wP, wX, wY, rfl, hes, hrd, hn, hn1, hm⟩ := hu
  have hp8 := gp_pow8 hm
  refine Mv.start (by decide +kernel) rfl rfl (fun X a d h ret => ?_)
  have h : Ok X cX1_findPolynomial RX1 (t1 d) 3 84 := h
  show JJ X (w1 a d (nI n, nI es.length, fe, se, rd, te, wt, wE, wP, wX, wY)) [some (.ref (a 0)), none] 0 []
  refine x_aload_n h dX1_findPolynomial_0 rfl ?_
  refine g1_rd h dX1_findPolynomial_1 ?_
  refine x_if_eq 8 h dX1_findPolynomial_4 (by decide) (fun c => ?_) (fun c => ?_)
  · have main : ∀ (k : Nat) (its : List gp_I) (te wE wP wX wY : Nat → Int32) (T : Nat → Nat), gp_mu es its < k → gp_stk n its wE wP wX wY → (∀ c, c < 81 → te c = nI (T c)) → (∀ (j : Nat) (t : gp_I), its[j]? = some t → gp_iok n es t ∧ (gp_sel es t.1).length + j ≤ es.length) → (∀ c, c < 81 → T c + gp_ils es c its = gp_lc c es gp_id 0 0) → JJ X (w1 a d (nI n, nI es.length, fe, se, nI 1, te, nI its.length, wE, wP, wX, wY)) [some (.ref (a 0)), some (.int (nI (gp_pk gp_id n)))] 59 [] := by
      intro k
      induction k with
      | zero => intro its te wE wP wX wY T hmu; omega
      | succ k ih =>
        intro its te wE wP wX wY T hmu hst hT hits hsum
        have hlen : its.length ≤ 9 := by
          apply Classical.byContradiction
          intro q
          have h9 : 9 < its.length := by omega
          have := (hits 9 _ (List.getElem?_eq_getElem h9)).2
          omega
        refine x_aload_n h dX1_findPolynomial_59 rfl ?_
        refine g1_wt h dX1_findPolynomial_60 ?_
        refine y_if_le 119 h dX1_findPolynomial_63 (by decide) (by omega) (fun c0 => ?_) (fun c0 => ?_)
        · refine ret _ _ _ dX1_findPolynomial_119 ⟨fe, se, te, nI its.length, wE, wP, wX, wY, rfl, hes, fun c hc => ?_, hn, hn1, hm⟩
          have hnil : its = [] := List.length_eq_zero_iff.mp c0
          have hs := hsum c hc
          rw [hnil] at hs
          simp only [gp_ils, Nat.add_zero] at hs
          rw [hT c hc, hs]
        · obtain ⟨its0, t, rfl⟩ : ∃ (l : List gp_I) (t : gp_I), its = l ++ [t] := by
            refine ⟨its.dropLast, its.getLast (fun q => by rw [q] at c0; exact absurd c0 (by decide)), ?_⟩
            exact (List.dropLast_concat_getLast _).symm
          have hl1 : (its0 ++ [t]).length = its0.length + 1 := by rw [List.length_append]; rfl
          have hat : (its0 ++ [t])[its0.length]? = some t := by rw [List.getElem?_append_right (Nat.le_refl _), Nat.sub_self]; rfl
          obtain ⟨hE, hPt, hX, hY⟩ := hst its0.length t hat
          obtain ⟨hok, hpos⟩ := hits its0.length t hat
          have hst0 : gp_stk n its0 wE wP wX wY := by
            intro j q hj
            have hlt := (List.getElem?_eq_some_iff.mp hj).1
            exact hst j q (by rw [List.getElem?_append_left hlt]; exact hj)
          rw [hl1] at hlen ⊢
          refine x_aload_n h dX1_findPolynomial_66 rfl ?_
          refine x_dup h dX1_findPolynomial_67 rfl ?_
          refine g1_wt h dX1_findPolynomial_68 ?_
          refine x_iconst (nI 1) h dX1_findPolynomial_71 (by decide) ?_
          refine y_isub h dX1_findPolynomial_72 (by omega) ?_
          refine p1_wt h dX1_findPolynomial_73 ?_
          rw [Nat.add_sub_cancel]
          refine x_aload_n h dX1_findPolynomial_76 rfl ?_
          refine x_aload_n h dX1_findPolynomial_77 rfl ?_
          refine g1_wE h dX1_findPolynomial_78 ?_
          refine x_aload_n h dX1_findPolynomial_81 rfl ?_
          refine g1_wt h dX1_findPolynomial_82 ?_
          refine l1_wE h dX1_findPolynomial_85 (by omega) ?_
          rw [hE]
          refine x_aload_n h dX1_findPolynomial_86 rfl ?_
          refine g1_wP h dX1_findPolynomial_87 ?_
          refine x_aload_n h dX1_findPolynomial_90 rfl ?_
          refine g1_wt h dX1_findPolynomial_91 ?_
          refine l1_wP h dX1_findPolynomial_94 (by omega) ?_
          rw [hPt]
          refine x_aload_n h dX1_findPolynomial_95 rfl ?_
          refine g1_wX h dX1_findPolynomial_96 ?_
          refine x_aload_n h dX1_findPolynomial_99 rfl ?_
          refine g1_wt h dX1_findPolynomial_100 ?_
          refine l1_wX h dX1_findPolynomial_103 (by omega) ?_
          rw [hX]
          refine x_aload_n h dX1_findPolynomial_104 rfl ?_
          refine g1_wY h dX1_findPolynomial_105 ?_
          refine x_aload_n h dX1_findPolynomial_108 rfl ?_
          refine g1_wt h dX1_findPolynomial_109 ?_
          refine l1_wY h dX1_findPolynomial_112 (by omega) ?_
          rw [hY]
          refine k1_workOff h dX1_findPolynomial_113 (m1_workOff hn hes hm (by omega) hst0 hT (E := t.1) (f := t.2.1) (x := t.2.2.1) (y := t.2.2.2) hok) (by decide) (by decide) (Nat.le_of_ble_eq_true rfl) (fun u' hp => ?_)
          obtain ⟨te', wE', wP', wX', wY', T', new, rfl, hst', hT', hleft⟩ := hp
          refine x_goto 59 h dX1_findPolynomial_116 (by decide) ?_
          refine ih (its0 ++ new) te' wE' wP' wX' wY' T' ?_ hst' hT' ?_ ?_
          · have h1 := gp_mu_new hleft
            rw [gp_mu_app] at hmu ⊢
            simp only [gp_mu] at hmu
            have h1' : gp_mu es new < 2 ^ ((gp_sel es t.1).length + 1) - 1 := h1
            omega
          · intro j q hj
            by_cases hlt : j < its0.length
            · rw [List.getElem?_append_left hlt] at hj
              exact hits j q (by rw [List.getElem?_append_left hlt]; exact hj)
            · rw [List.getElem?_append_right (by omega)] at hj
              have hjn := (List.getElem?_eq_some_iff.mp hj).1
              have h2 := hleft.2.1 q (List.mem_of_getElem? hj)
              have h3 := hleft.1
              have h4 : (gp_sel es q.1).length + 1 ≤ (gp_sel es t.1).length := h2.2
              exact ⟨h2.1, by omega⟩
          · intro c hc
            have h1 := hsum c hc
            have h2 : T' c + gp_ils es c new = T c + gp_il es c t := hleft.2.2 c hc
            rw [gp_ils_app] at h1 ⊢
            simp only [gp_ils] at h1
            omega
    have clr : ∀ (k i : Nat) (te : Nat → Int32), i ≤ 81 → 82 ≤ i + k → (∀ c, c < i → te c = nI 0) → JJ X (w1 a d (nI n, nI es.length, fe, se, nI 1, te, wt, wE, wP, wX, wY)) [some (.ref (a 0)), some (.int (nI i))] 15 [] := by
      intro k
      induction k with
      | zero => intro i te h1 h2; omega
      | succ k ih =>
        intro i te h1 h2 h3
        refine x_iload_n h dX1_findPolynomial_15 rfl ?_
        refine x_bipush (nI 81) h dX1_findPolynomial_16 (by decide) ?_
        refine y_icmp_ge 34 h dX1_findPolynomial_18 (by decide) (by omega) (by omega) (fun c0 => ?_) (fun c0 => ?_)
        · have hi : i = 81 := by omega
          subst hi
          refine x_aload_n h dX1_findPolynomial_34 rfl ?_
          refine x_iconst (nI 0) h dX1_findPolynomial_35 (by decide) ?_
          refine p1_wt h dX1_findPolynomial_36 ?_
          refine x_aload_n h dX1_findPolynomial_39 rfl ?_
          refine k1_startPoints h dX1_findPolynomial_40 (m1_startPoints hn) (by decide) (by decide) (Nat.le_of_ble_eq_true rfl) (fun r u' hp => ?_)
          obtain ⟨rfl, rfl⟩ := hp
          refine is_2_1 h dX1_findPolynomial_43 rfl ?_
          refine x_aload_n h dX1_findPolynomial_44 rfl ?_
          refine x_iconst (nI 1) h dX1_findPolynomial_45 (by decide) ?_
          refine x_aload_n h dX1_findPolynomial_46 rfl ?_
          refine g1_ec h dX1_findPolynomial_47 ?_
          refine y_ishl h dX1_findPolynomial_50 (by omega) (by omega) ?_
          rw [Nat.one_mul]
          refine x_iconst (nI 1) h dX1_findPolynomial_51 (by decide) ?_
          refine y_isub h dX1_findPolynomial_52 (by omega) ?_
          refine x_iload_n h dX1_findPolynomial_53 rfl ?_
          refine x_iconst (nI 0) h dX1_findPolynomial_54 (by decide) ?_
          refine x_iconst (nI 0) h dX1_findPolynomial_55 (by decide) ?_
          refine k1_push h dX1_findPolynomial_56 (m1_push (by omega) (by omega) (by omega) (by omega)) (by decide) (by decide) (Nat.le_of_ble_eq_true rfl) (fun u' hp => ?_)
          subst hp
          have hnil : gp_stk n [] wE wP wX wY := fun j q hj => by simp at hj
          refine main (gp_mu es [(2 ^ es.length - 1, gp_id, 0, 0)] + 1) [(2 ^ es.length - 1, gp_id, 0, 0)] te _ _ _ _ (fun _ => 0) (by omega) (gp_stk_push hnil (2 ^ es.length - 1, gp_id, 0, 0)) h3 ?_ ?_
          · intro j q hj
            cases j with
            | zero =>
              simp only [List.getElem?_cons_zero, Option.some.injEq] at hj
              subst hj
              refine ⟨⟨gp_ok_id n, ?_, ?_⟩, ?_⟩
              · show 2 ^ es.length - 1 < 2 ^ es.length; omega
              · show 0 + 0 + (gp_sel es (2 ^ es.length - 1)).length ≤ 8; rw [gp_sel_all]; omega
              · show (gp_sel es (2 ^ es.length - 1)).length + 0 ≤ es.length; rw [gp_sel_all]; omega
            | succ j => simp at hj
          · intro c hc
            show 0 + (gp_lc c (gp_sel es (2 ^ es.length - 1)) gp_id 0 0 + 0) = gp_lc c es gp_id 0 0
            rw [gp_sel_all]; omega
        · refine x_aload_n h dX1_findPolynomial_21 rfl ?_
          refine g1_te h dX1_findPolynomial_22 ?_
          refine x_iload_n h dX1_findPolynomial_25 rfl ?_
          refine x_iconst (nI 0) h dX1_findPolynomial_26 (by decide) ?_
          refine a1_te h dX1_findPolynomial_27 (by omega) ?_
          refine ic_2_1 h dX1_findPolynomial_28 rfl ?_
          refine x_goto 15 h dX1_findPolynomial_31 (by decide) ?_
          refine ih (i + 1) _ (by omega) (by omega) (fun c hc => ?_)
          by_cases q : c = i
          · rw [q]; exact pk_us
          · rw [pk_un q]; exact h3 c (by omega)
    refine x_aload_n h dX1_findPolynomial_8 rfl ?_
    refine x_iconst (nI 1) h dX1_findPolynomial_9 (by decide) ?_
    refine p1_rd h dX1_findPolynomial_10 rfl rfl ?_
    refine x_iconst (nI 0) h dX1_findPolynomial_13 (by decide) ?_
    refine is_2_1 h dX1_findPolynomial_14 rfl ?_
    exact clr 82 0 te (by omega) (by omega) (fun c hc => by omega)
  · rcases hrd with q | q
    · exact absurd q c
    · obtain ⟨rfl, hte⟩ := q
      exact ret _ _ _ dX1_findPolynomial_7 ⟨fe, se, te, wt, wE, wP, wX, wY, rfl, hes, hte, hn, hn1, hm⟩
end
section
set_option maxRecDepth 100000
theorem n_ofInt (n : Nat) : nI n = Int32.ofInt (n : Int) := by
  show Int32.ofNat n = _
  exact (Int32.ofInt_eq_ofNat).symm
theorem n_vm (p q : Int) : Int32.ofInt p * Int32.ofInt q = Int32.ofInt (p * q) := (Int32.ofInt_mul p q).symm
theorem n_va (A p : Int) (t : Nat) : Int32.ofInt A + nI t * Int32.ofInt p = Int32.ofInt (A + (t : Int) * p) := by rw [n_ofInt, n_vm, Int32.ofInt_add]
theorem m1_coefficient {n : Nat} {es : List (Nat × Nat)} {u : S1} (hu : G1 n es u) (x y : Int32) : C1_coefficient [.int x, .int y] u (fun r u' => G1 n es u' ∧ ((∃ i j : Nat, i < 9 ∧ j < 9 ∧ x = nI i ∧ y = nI j ∧ r = nI (gp_lc (9 * i + j) es gp_id 0 0)) ∨ ((x < 0 ∨ nI 8 < x ∨ y < 0 ∨ nI 8 < y) ∧ r = nI 0))) := by
  refine Mi.start (by decide +kernel) rfl rfl (fun X a d h ret => ?_)
  have h : Ok X cX1_coefficient RX1 (t1 d) 4 105 := h
  show JJ X (w1 a d u) [some (.ref (a 0)), some (.int x), some (.int y)] 0 []
  have bad : (x < 0 ∨ nI 8 < x ∨ y < 0 ∨ nI 8 < y) → JJ X (w1 a d u) [some (.ref (a 0)), some (.int x), some (.int y)] 20 [] := by
    intro hb
    refine x_iconst (nI 0) h dX1_coefficient_20 (by decide) ?_
    exact ret _ _ _ _ dX1_coefficient_21 rfl ⟨hu, Or.inr ⟨hb, rfl⟩⟩
  refine x_iload_n h dX1_coefficient_0 rfl ?_
  refine x_if_lt 20 h dX1_coefficient_1 (by decide) (fun c1 => ?_) (fun c1 => ?_)
  · exact bad (Or.inl c1)
  · refine x_iload_n h dX1_coefficient_4 rfl ?_
    refine x_bipush (nI 8) h dX1_coefficient_5 (by decide) ?_
    refine x_icmp_gt 20 h dX1_coefficient_7 (by decide) (fun c2 => ?_) (fun c2 => ?_)
    · exact bad (Or.inr (Or.inl c2))
    · refine x_iload_n h dX1_coefficient_10 rfl ?_
      refine x_if_lt 20 h dX1_coefficient_11 (by decide) (fun c3 => ?_) (fun c3 => ?_)
      · exact bad (Or.inr (Or.inr (Or.inl c3)))
      · refine x_iload_n h dX1_coefficient_14 rfl ?_
        refine x_bipush (nI 8) h dX1_coefficient_15 (by decide) ?_
        refine x_icmp_le 22 h dX1_coefficient_17 (by decide) (fun c4 => ?_) (fun c4 => ?_)
        · obtain ⟨i, hi, rfl⟩ := nI_of2 (n := 8) (M := nI 8) (by decide) c1 (Int32.not_lt.mp c2)
          obtain ⟨j, hj, rfl⟩ := nI_of2 (n := 8) (M := nI 8) (by decide) c3 c4
          refine x_aload_n h dX1_coefficient_22 rfl ?_
          refine k1_findPolynomial h dX1_coefficient_23 (m1_findPolynomial hu) (by decide) (by decide) (Nat.le_of_ble_eq_true rfl) (fun u' hp => ?_)
          have hp0 := hp
          obtain ⟨fe, se, te, wt, wE, wP, wX, wY, rfl, h1, h2, h3⟩ := hp0
          refine x_aload_n h dX1_coefficient_26 rfl ?_
          refine g1_te h dX1_coefficient_27 ?_
          refine x_bipush (nI 9) h dX1_coefficient_30 (by decide) ?_
          refine x_iload_n h dX1_coefficient_32 rfl ?_
          refine y_imul h dX1_coefficient_33 ?_
          refine x_iload_n h dX1_coefficient_34 rfl ?_
          refine y_iadd h dX1_coefficient_35 ?_
          refine l1_te h dX1_coefficient_36 (by omega) ?_
          rw [h2 _ (by omega)]
          exact ret _ _ _ _ dX1_coefficient_37 rfl ⟨hp.G1, Or.inl ⟨i, j, by omega, by omega, rfl, rfl, rfl⟩⟩
        · exact bad (Or.inr (Or.inr (Or.inr (Int32.not_le.mp c4))))
def gp_vj (x y : Int) (es : List (Nat × Nat)) (i j : Nat) : Int := ((gp_lc (9 * i + j) es gp_id 0 0 : Nat) : Int) * (x ^ i * y ^ j)
def gp_vi (x y : Int) (es : List (Nat × Nat)) (i : Nat) : Int := gp_su 9 (gp_vj x y es i)
theorem gp_vi_val (x y : Int) (es : List (Nat × Nat)) (h : es.length < 9) : gp_su 9 (gp_vi x y es) = gp_val x y es gp_id := gp_value x y es gp_id h
theorem gp_su_s (n : Nat) (F : Nat → Int) : gp_su (n + 1) F = gp_su n F + F n := rfl
theorem m1_valueAt {n : Nat} {es : List (Nat × Nat)} {u : S1} (hu : G1 n es u) (x y : Int) : C1_valueAt [.int (Int32.ofInt x), .int (Int32.ofInt y)] u (fun r u' => G1 n es u' ∧ r = Int32.ofInt (gp_val x y es gp_id)) := by
  refine Mi.start (by decide +kernel) rfl rfl (fun X a d h ret => ?_)
  have h : Ok X cX1_valueAt RX1 (t1 d) 4 105 := h
  show JJ X (w1 a d u) [some (.ref (a 0)), some (.int (Int32.ofInt x)), some (.int (Int32.ofInt y)), none, none, none, none, none] 0 []
  refine x_aload_n h dX1_valueAt_0 rfl ?_
  refine k1_findPolynomial h dX1_valueAt_1 (m1_findPolynomial hu) (by decide) (by decide) (Nat.le_of_ble_eq_true rfl) (fun u' hp => ?_)
  have hp0 := hp
  obtain ⟨fe, se, te, wt, wE, wP, wX, wY, rfl, hes, hte, hn, hn1, hm⟩ := hp0
  refine x_iconst (Int32.ofInt (gp_su 0 (gp_vi x y es))) h dX1_valueAt_4 rfl ?_
  refine is_8_3 h dX1_valueAt_5 rfl ?_
  refine x_iconst (Int32.ofInt (x ^ 0)) h dX1_valueAt_6 (by rw [Int.pow_zero]) ?_
  refine is_8_4 h dX1_valueAt_7 rfl ?_
  refine x_iconst (nI 0) h dX1_valueAt_9 (by decide) ?_
  refine is_8_5 h dX1_valueAt_10 rfl ?_
  have outer : ∀ (k i : Nat) (o1 o2 : Option Value), i ≤ 9 → 10 ≤ i + k → JJ X (w1 a d (nI n, nI es.length, fe, se, 1, te, wt, wE, wP, wX, wY)) [some (.ref (a 0)), some (.int (Int32.ofInt x)), some (.int (Int32.ofInt y)), some (.int (Int32.ofInt (gp_su i (gp_vi x y es)))), some (.int (Int32.ofInt (x ^ i))), some (.int (nI i)), o1, o2] 12 [] := by
    intro k
    induction k with
    | zero => intro i o1 o2 h1 h2; omega
    | succ k ih =>
      intro i o1 o2 h1 h2
      refine x_iload h dX1_valueAt_12 rfl ?_
      refine x_bipush (nI 9) h dX1_valueAt_14 (by decide) ?_
      refine y_icmp_ge 76 h dX1_valueAt_16 (by decide) (by omega) (by omega) (fun c0 => ?_) (fun c0 => ?_)
      · have hi : i = 9 := by omega
        subst hi
        refine x_iload_n h dX1_valueAt_76 rfl ?_
        exact ret _ _ _ _ dX1_valueAt_77 rfl ⟨hp.G1, by rw [gp_vi_val x y es (by omega)]⟩
      · have inner : ∀ (k j : Nat), j ≤ 9 → 10 ≤ j + k → JJ X (w1 a d (nI n, nI es.length, fe, se, 1, te, wt, wE, wP, wX, wY)) [some (.ref (a 0)), some (.int (Int32.ofInt x)), some (.int (Int32.ofInt y)), some (.int (Int32.ofInt (gp_su i (gp_vi x y es) + gp_su j (gp_vj x y es i)))), some (.int (Int32.ofInt (x ^ i))), some (.int (nI i)), some (.int (Int32.ofInt (x ^ i * y ^ j))), some (.int (nI j))] 26 [] := by
          intro k
          induction k with
          | zero => intro j h1 h2; omega
          | succ k ih2 =>
            intro j h1 h2
            refine x_iload h dX1_valueAt_26 rfl ?_
            refine x_bipush (nI 9) h dX1_valueAt_28 (by decide) ?_
            refine y_icmp_ge 64 h dX1_valueAt_30 (by decide) (by omega) (by omega) (fun c1 => ?_) (fun c1 => ?_)
            · have hj : j = 9 := by omega
              subst hj
              refine x_iload h dX1_valueAt_64 rfl ?_
              refine x_iload_n h dX1_valueAt_66 rfl ?_
              refine x_imul h dX1_valueAt_67 ?_
              refine x_top (v := Int32.ofInt (x ^ (i + 1))) (by rw [n_vm, Int.pow_succ]) ?_
              refine is_8_4 h dX1_valueAt_68 rfl ?_
              refine ic_8_5 h dX1_valueAt_70 rfl ?_
              refine x_goto 12 h dX1_valueAt_73 (by decide) ?_
              exact ih (i + 1) _ _ (by omega) (by omega)
            · refine x_iload_n h dX1_valueAt_33 rfl ?_
              refine x_aload_n h dX1_valueAt_34 rfl ?_
              refine g1_te h dX1_valueAt_35 ?_
              refine x_bipush (nI 9) h dX1_valueAt_38 (by decide) ?_
              refine x_iload h dX1_valueAt_40 rfl ?_
              refine y_imul h dX1_valueAt_42 ?_
              refine x_iload h dX1_valueAt_43 rfl ?_
              refine y_iadd h dX1_valueAt_45 ?_
              refine l1_te h dX1_valueAt_46 (by omega) ?_
              rw [hte _ (by omega)]
              refine x_iload h dX1_valueAt_47 rfl ?_
              refine x_imul h dX1_valueAt_49 ?_
              refine x_iadd h dX1_valueAt_50 ?_
              refine x_top (v := Int32.ofInt (gp_su i (gp_vi x y es) + gp_su (j + 1) (gp_vj x y es i))) (by rw [n_va, gp_su_s j, ← Int.add_assoc]; rfl) ?_
              refine is_8_3 h dX1_valueAt_51 rfl ?_
              refine x_iload h dX1_valueAt_52 rfl ?_
              refine x_iload_n h dX1_valueAt_54 rfl ?_
              refine x_imul h dX1_valueAt_55 ?_
              refine x_top (v := Int32.ofInt (x ^ i * y ^ (j + 1))) (by rw [n_vm, Int.pow_succ, ← Int.mul_assoc]) ?_
              refine is_8_6 h dX1_valueAt_56 rfl ?_
              refine ic_8_7 h dX1_valueAt_58 rfl ?_
              refine x_goto 26 h dX1_valueAt_61 (by decide) ?_
              exact ih2 (j + 1) (by omega) (by omega)
        refine x_iload h dX1_valueAt_19 rfl ?_
        refine is_8_6 h dX1_valueAt_21 rfl ?_
        refine x_iconst (nI 0) h dX1_valueAt_23 (by decide) ?_
        refine is_8_7 h dX1_valueAt_24 rfl ?_
        have hh := inner 10 0 (by omega) (by omega)
        rw [show gp_su 0 (gp_vj x y es i) = 0 from rfl, Int.add_zero, Int.pow_zero, Int.mul_one] at hh
        exact hh
  exact outer 10 0 none none (by omega) (by omega)
theorem m1_trees {n : Nat} {es : List (Nat × Nat)} {u : S1} (hu : G1 n es u) : C1_trees [] u (fun r u' => G1 n es u' ∧ r = Int32.ofInt (gp_val 1 1 es gp_id)) := by
  refine Mi.start (by decide +kernel) rfl rfl (fun X a d h ret => ?_)
  have h : Ok X cX1_trees RX1 (t1 d) 5 132 := h
  show JJ X (w1 a d u) [some (.ref (a 0))] 0 []
  refine x_aload_n h dX1_trees_0 rfl ?_
  refine x_iconst (Int32.ofInt 1) h dX1_trees_1 (by decide) ?_
  refine x_iconst (Int32.ofInt 1) h dX1_trees_2 (by decide) ?_
  refine k1_valueAt h dX1_trees_3 (m1_valueAt hu 1 1) (by decide) (by decide) (Nat.le_of_ble_eq_true rfl) (fun r u' hp => ?_)
  exact ret _ _ _ _ dX1_trees_6 rfl hp
theorem m1_forests {n : Nat} {es : List (Nat × Nat)} {u : S1} (hu : G1 n es u) : C1_forests [] u (fun r u' => G1 n es u' ∧ r = Int32.ofInt (gp_val 2 1 es gp_id)) := by
  refine Mi.start (by decide +kernel) rfl rfl (fun X a d h ret => ?_)
  have h : Ok X cX1_forests RX1 (t1 d) 5 132 := h
  show JJ X (w1 a d u) [some (.ref (a 0))] 0 []
  refine x_aload_n h dX1_forests_0 rfl ?_
  refine x_iconst (Int32.ofInt 2) h dX1_forests_1 (by decide) ?_
  refine x_iconst (Int32.ofInt 1) h dX1_forests_2 (by decide) ?_
  refine k1_valueAt h dX1_forests_3 (m1_valueAt hu 2 1) (by decide) (by decide) (Nat.le_of_ble_eq_true rfl) (fun r u' hp => ?_)
  exact ret _ _ _ _ dX1_forests_6 rfl hp
theorem m1_spanning {n : Nat} {es : List (Nat × Nat)} {u : S1} (hu : G1 n es u) : C1_spanning [] u (fun r u' => G1 n es u' ∧ r = Int32.ofInt (gp_val 1 2 es gp_id)) := by
  refine Mi.start (by decide +kernel) rfl rfl (fun X a d h ret => ?_)
  have h : Ok X cX1_spanning RX1 (t1 d) 5 132 := h
  show JJ X (w1 a d u) [some (.ref (a 0))] 0 []
  refine x_aload_n h dX1_spanning_0 rfl ?_
  refine x_iconst (Int32.ofInt 1) h dX1_spanning_1 (by decide) ?_
  refine x_iconst (Int32.ofInt 2) h dX1_spanning_2 (by decide) ?_
  refine k1_valueAt h dX1_spanning_3 (m1_valueAt hu 1 2) (by decide) (by decide) (Nat.le_of_ble_eq_true rfl) (fun r u' hp => ?_)
  exact ret _ _ _ _ dX1_spanning_6 rfl hp
theorem m1_acyclic {n : Nat} {es : List (Nat × Nat)} {u : S1} (hu : G1 n es u) : C1_acyclic [] u (fun r u' => G1 n es u' ∧ r = Int32.ofInt (gp_val 2 0 es gp_id)) := by
  refine Mi.start (by decide +kernel) rfl rfl (fun X a d h ret => ?_)
  have h : Ok X cX1_acyclic RX1 (t1 d) 5 132 := h
  show JJ X (w1 a d u) [some (.ref (a 0))] 0 []
  refine x_aload_n h dX1_acyclic_0 rfl ?_
  refine x_iconst (Int32.ofInt 2) h dX1_acyclic_1 (by decide) ?_
  refine x_iconst (Int32.ofInt 0) h dX1_acyclic_2 (by decide) ?_
  refine k1_valueAt h dX1_acyclic_3 (m1_valueAt hu 2 0) (by decide) (by decide) (Nat.le_of_ble_eq_true rfl) (fun r u' hp => ?_)
  exact ret _ _ _ _ dX1_acyclic_6 rfl hp
end
section
set_option maxRecDepth 100000
/-! what add, drop and merge answer and do, for both sides -/
def gp_pt (n : Nat) (x : Int32) : Prop := ∃ p : Nat, p < n ∧ x = nI p
def gp_Radd (n : Nat) (es : List (Nat × Nat)) (x y r : Int32) (es' : List (Nat × Nat)) : Prop := (8 ≤ es.length ∧ r = -2 ∧ es' = es) ∨ (es.length < 8 ∧ ¬ (gp_pt n x ∧ gp_pt n y) ∧ r = -1 ∧ es' = es) ∨ (es.length < 8 ∧ ∃ p q : Nat, p < n ∧ q < n ∧ x = nI p ∧ y = nI q ∧ r = nI (es.length + 1) ∧ es' = es ++ [(p, q)])
def gp_Rdrop (es : List (Nat × Nat)) (x r : Int32) (es' : List (Nat × Nat)) : Prop := (∃ i : Nat, i < es.length ∧ x = nI i ∧ r = nI (es.length - 1) ∧ es' = es.eraseIdx i) ∨ (¬ gp_pt es.length x ∧ r = -1 ∧ es' = es)
def gp_mg (e : Nat × Nat) (q : Nat × Nat) : Nat × Nat := (gp_ph e.1 e.2 q.1, gp_ph e.1 e.2 q.2)
def gp_Rmerge (es : List (Nat × Nat)) (x r : Int32) (es' : List (Nat × Nat)) : Prop := (∃ (i : Nat) (e : Nat × Nat), es[i]? = some e ∧ x = nI i ∧ r = nI (es.length - 1) ∧ es' = (es.eraseIdx i).map (gp_mg e)) ∨ (¬ gp_pt es.length x ∧ r = -1 ∧ es' = es)
theorem gp_pt_not_neg {n : Nat} {x : Int32} (hn : n < 2147483648) (h : x < 0) : ¬ gp_pt n x := by
  intro ⟨p, hp, e⟩
  rw [e] at h
  exact nI_pos (by omega) h
theorem gp_pt_not_ge {n : Nat} {x : Int32} (hn : n < 2147483648) (h : nI n ≤ x) : ¬ gp_pt n x := by
  intro ⟨p, hp, e⟩
  rw [e] at h
  have := (n_le hn (by omega)).mp h
  omega
theorem gp_pt_of {n : Nat} {x : Int32} (hn : n < 2147483648) (h0 : ¬ x < 0) (h : ¬ nI n ≤ x) : ∃ p : Nat, p < n ∧ x = nI p := by
  obtain ⟨j, hj, rfl⟩ := nI_of h0
  refine ⟨j, ?_, rfl⟩
  apply Classical.byContradiction
  intro q
  exact h ((n_le hn hj).mpr (by omega))
/-- as G1, and the polynomial isn't ready -/
def G0 (n : Nat) (es : List (Nat × Nat)) (u : S1) : Prop := ∃ (fe se te : Nat → Int32) (wt : Int32) (wE wP wX wY : Nat → Int32), u = (nI n, nI es.length, fe, se, nI 0, te, wt, wE, wP, wX, wY) ∧ gE n es fe se ∧ n ≤ 6 ∧ 1 ≤ n ∧ es.length ≤ 8
theorem G0.G1 {n : Nat} {es : List (Nat × Nat)} {u : S1} (h : G0 n es u) : G1 n es u := by
  obtain ⟨fe, se, te, wt, wE, wP, wX, wY, rfl, h1, h2⟩ := h
  exact ⟨fe, se, nI 0, te, wt, wE, wP, wX, wY, rfl, h1, Or.inl nI_0, h2⟩
theorem gE_snoc {n : Nat} {es : List (Nat × Nat)} {fe se : Nat → Int32} (h : gE n es fe se) {p q : Nat} (hp : p < n) (hq : q < n) : gE n (es ++ [(p, q)]) (upd fe es.length (nI p)) (upd se es.length (nI q)) := by
  intro j e hj
  by_cases c : j = es.length
  · subst c
    rw [List.getElem?_append_right (Nat.le_refl _), Nat.sub_self, List.getElem?_cons_zero] at hj
    injection hj with hj
    subst hj
    exact ⟨pk_us, pk_us, hp, hq⟩
  · have hlt : j < es.length := by
      have := (List.getElem?_eq_some_iff.mp hj).1
      rw [List.length_append, List.length_cons, List.length_nil] at this
      omega
    rw [List.getElem?_append_left hlt] at hj
    rw [pk_un c, pk_un c]
    exact h j e hj
/-- the arrays while an edge is dropped: places i .. j - 1 are moved -/
def gp_mv (f : Nat → Int32) (i j : Nat) : Nat → Int32 := fun q => if i ≤ q ∧ q < j then f (q + 1) else f q
theorem gp_mv_0 (f : Nat → Int32) (i : Nat) : gp_mv f i i = f := by
  funext q
  exact if_neg (by omega)
theorem gp_mv_s (f : Nat → Int32) {i j : Nat} (h : i ≤ j) : upd (gp_mv f i j) j (f (j + 1)) = gp_mv f i (j + 1) := by
  funext q
  show (if q = j then f (j + 1) else if i ≤ q ∧ q < j then f (q + 1) else f q) = if i ≤ q ∧ q < j + 1 then f (q + 1) else f q
  by_cases c : q = j
  · rw [if_pos c, if_pos (by omega), c]
  · rw [if_neg c]
    by_cases e : i ≤ q ∧ q < j
    · rw [if_pos e, if_pos (by omega)]
    · rw [if_neg e, if_neg (by omega)]
theorem gp_mv_at (f : Nat → Int32) (i j : Nat) : gp_mv f i j (j + 1) = f (j + 1) := if_neg (by omega)
theorem gE_mv {n : Nat} {es : List (Nat × Nat)} {fe se : Nat → Int32} (h : gE n es fe se) {i : Nat} (hi : i < es.length) : gE n (es.eraseIdx i) (gp_mv fe i (es.length - 1)) (gp_mv se i (es.length - 1)) := by
  intro j e hj
  rw [List.getElem?_eraseIdx] at hj
  by_cases c : j < i
  · rw [if_pos c] at hj
    have hh := h j e hj
    rw [show gp_mv fe i (es.length - 1) j = fe j from if_neg (by omega), show gp_mv se i (es.length - 1) j = se j from if_neg (by omega)]
    exact hh
  · rw [if_neg c] at hj
    have hlt := (List.getElem?_eq_some_iff.mp hj).1
    have hh := h (j + 1) e hj
    rw [show gp_mv fe i (es.length - 1) j = fe (j + 1) from if_pos (by omega), show gp_mv se i (es.length - 1) j = se (j + 1) from if_pos (by omega)]
    exact hh
/-- the arrays while two points become one: places below j are done -/
def gp_rl (e : Nat × Nat) (j : Nat) (l : List (Nat × Nat)) : List (Nat × Nat) := (l.take j).map (gp_mg e) ++ l.drop j
theorem gp_rl_0 (e : Nat × Nat) (l : List (Nat × Nat)) : gp_rl e 0 l = l := rfl
theorem gp_rl_len (e : Nat × Nat) (j : Nat) (l : List (Nat × Nat)) : (gp_rl e j l).length = l.length := by
  unfold gp_rl
  rw [List.length_append, List.length_map, List.length_take, List.length_drop]
  omega
theorem gp_rl_all (e : Nat × Nat) (l : List (Nat × Nat)) : gp_rl e l.length l = l.map (gp_mg e) := by
  unfold gp_rl
  rw [List.take_length, List.drop_length, List.append_nil]
theorem gp_rl_at (e : Nat × Nat) (l : List (Nat × Nat)) {j k : Nat} {q : Nat × Nat} (h : l[k]? = some q) : (gp_rl e j l)[k]? = some (if k < j then gp_mg e q else q) := by
  have hk := (List.getElem?_eq_some_iff.mp h).1
  unfold gp_rl
  by_cases c : k < j
  · rw [if_pos c, List.getElem?_append_left (by rw [List.length_map, List.length_take]; omega), List.getElem?_map, List.getElem?_take_of_lt c, h]; rfl
  · rw [if_neg c, List.getElem?_append_right (by rw [List.length_map, List.length_take]; omega), List.length_map, List.length_take, List.getElem?_drop, show j + (k - min j l.length) = k by omega, h]
theorem gE_rl {n : Nat} {l : List (Nat × Nat)} {fe se fe' se' : Nat → Int32} {e : Nat × Nat} {j : Nat} {q : Nat × Nat} (h : gE n (gp_rl e j l) fe se) (hq : l[j]? = some q) (hf : ∀ k, k ≠ j → fe' k = fe k) (hs : ∀ k, k ≠ j → se' k = se k) (hfj : fe' j = nI (gp_mg e q).1) (hsj : se' j = nI (gp_mg e q).2) : gE n (gp_rl e (j + 1) l) fe' se' := by
  intro k r hk
  have hkl : k < l.length := by have := (List.getElem?_eq_some_iff.mp hk).1; rw [gp_rl_len] at this; exact this
  have hkk := List.getElem?_eq_getElem hkl
  rw [gp_rl_at e l hkk] at hk
  injection hk with hk
  by_cases c : k = j
  · subst c
    rw [hkk] at hq
    injection hq with hq
    rw [hq, if_pos (by omega)] at hk
    have b := h k _ (gp_rl_at e l hkk)
    rw [hq, if_neg (by omega)] at b
    rw [← hk]
    exact ⟨hfj, hsj, Nat.lt_of_le_of_lt (gp_ph_le _ _ _) b.2.2.1, Nat.lt_of_le_of_lt (gp_ph_le _ _ _) b.2.2.2⟩
  · have b := h k _ (gp_rl_at e l hkk)
    rw [hf k c, hs k c, ← hk]
    by_cases d : k < j
    · rw [if_pos d] at b
      rw [if_pos (by omega)]; exact b
    · rw [if_neg d] at b
      rw [if_neg (by omega)]; exact b
theorem m1_add {n : Nat} {es : List (Nat × Nat)} {u : S1} (hu : G1 n es u) (x y : Int32) : C1_add [.int x, .int y] u (fun r u' => ∃ es', gp_Radd n es x y r es' ∧ G1 n es' u') := by
  have hu0 := hu
  obtain ⟨fe, se, rd, te, wt, wE, wP, wX, wY, rfl, hes, hrd, hn, hn1, hm⟩ := hu0
  refine Mi.start (by decide +kernel) rfl rfl (fun X a d h ret => ?_)
  have h : Ok X cX1_add RX1 (t1 d) 0 0 := h
  show JJ X (w1 a d (nI n, nI es.length, fe, se, rd, te, wt, wE, wP, wX, wY)) [some (.ref (a 0)), some (.int x), some (.int y)] 0 []
  refine x_aload_n h dX1_add_0 rfl ?_
  refine g1_ec h dX1_add_1 ?_
  refine x_bipush (nI 8) h dX1_add_4 (by decide) ?_
  refine y_icmp_lt 12 h dX1_add_6 (by decide) (by omega) (by omega) (fun c0 => ?_) (fun c0 => ?_)
  · have bad : ¬ (gp_pt n x ∧ gp_pt n y) → JJ X (w1 a d (nI n, nI es.length, fe, se, rd, te, wt, wE, wP, wX, wY)) [some (.ref (a 0)), some (.int x), some (.int y)] 36 [] := by
      intro hb
      refine x_iconst (-1) h dX1_add_36 (by decide) ?_
      exact ret _ _ _ _ dX1_add_37 rfl ⟨es, Or.inr (Or.inl ⟨c0, hb, rfl, rfl⟩), hu⟩
    refine x_iload_n h dX1_add_12 rfl ?_
    refine x_if_lt 36 h dX1_add_13 (by decide) (fun c1 => ?_) (fun c1 => ?_)
    · exact bad (fun q => gp_pt_not_neg (by omega) c1 q.1)
    · refine x_iload_n h dX1_add_16 rfl ?_
      refine x_aload_n h dX1_add_17 rfl ?_
      refine g1_n h dX1_add_18 ?_
      refine x_icmp_ge 36 h dX1_add_21 (by decide) (fun c2 => ?_) (fun c2 => ?_)
      · exact bad (fun q => gp_pt_not_ge (by omega) c2 q.1)
      · refine x_iload_n h dX1_add_24 rfl ?_
        refine x_if_lt 36 h dX1_add_25 (by decide) (fun c3 => ?_) (fun c3 => ?_)
        · exact bad (fun q => gp_pt_not_neg (by omega) c3 q.2)
        · refine x_iload_n h dX1_add_28 rfl ?_
          refine x_aload_n h dX1_add_29 rfl ?_
          refine g1_n h dX1_add_30 ?_
          refine x_icmp_lt 38 h dX1_add_33 (by decide) (fun c4 => ?_) (fun c4 => ?_)
          · obtain ⟨p, hp, rfl⟩ := gp_pt_of (by omega) c1 c2
            obtain ⟨q, hq, rfl⟩ := gp_pt_of (by omega) c3 (Int32.not_le.mpr c4)
            refine x_aload_n h dX1_add_38 rfl ?_
            refine g1_fe h dX1_add_39 ?_
            refine x_aload_n h dX1_add_42 rfl ?_
            refine g1_ec h dX1_add_43 ?_
            refine x_iload_n h dX1_add_46 rfl ?_
            refine x_i2b (nI p) h dX1_add_47 (n_i2b p (by omega)) ?_
            refine a1_fe (nI p) h dX1_add_48 c0 (n_nb (by omega)) ?_
            refine x_aload_n h dX1_add_49 rfl ?_
            refine g1_se h dX1_add_50 ?_
            refine x_aload_n h dX1_add_53 rfl ?_
            refine g1_ec h dX1_add_54 ?_
            refine x_iload_n h dX1_add_57 rfl ?_
            refine x_i2b (nI q) h dX1_add_58 (n_i2b q (by omega)) ?_
            refine a1_se (nI q) h dX1_add_59 c0 (n_nb (by omega)) ?_
            refine x_aload_n h dX1_add_60 rfl ?_
            refine x_dup h dX1_add_61 rfl ?_
            refine g1_ec h dX1_add_62 ?_
            refine x_iconst (nI 1) h dX1_add_65 (by decide) ?_
            refine y_iadd h dX1_add_66 ?_
            refine p1_ec h dX1_add_67 ?_
            refine x_aload_n h dX1_add_70 rfl ?_
            refine x_iconst (nI 0) h dX1_add_71 (by decide) ?_
            refine p1_rd h dX1_add_72 rfl rfl ?_
            refine x_aload_n h dX1_add_75 rfl ?_
            refine g1_ec h dX1_add_76 ?_
            refine ret _ _ _ _ dX1_add_79 rfl ⟨es ++ [(p, q)], Or.inr (Or.inr ⟨c0, p, q, hp, hq, rfl, rfl, rfl, rfl⟩), ?_⟩
            refine ⟨_, _, nI 0, te, wt, wE, wP, wX, wY, ?_, gE_snoc hes hp hq, Or.inl nI_0, hn, hn1, by rw [List.length_append]; show es.length + 1 ≤ 8; omega⟩
            rw [List.length_append]; rfl
          · exact bad (fun q => gp_pt_not_ge (by omega) (Int32.not_lt.mp c4) q.2)
  · refine x_bipush (-2) h dX1_add_9 (by decide) ?_
    exact ret _ _ _ _ dX1_add_11 rfl ⟨es, Or.inl ⟨c0, rfl, rfl⟩, hu⟩
theorem m1_drop {n : Nat} {es : List (Nat × Nat)} {u : S1} (hu : G1 n es u) (x : Int32) : C1_drop [.int x] u (fun r u' => (∃ i : Nat, i < es.length ∧ x = nI i ∧ r = nI (es.length - 1) ∧ G0 n (es.eraseIdx i) u') ∨ (¬ gp_pt es.length x ∧ r = -1 ∧ G1 n es u')) := by
  have hu0 := hu
  obtain ⟨fe, se, rd, te, wt, wE, wP, wX, wY, rfl, hes, hrd, hn, hn1, hm⟩ := hu0
  refine Mi.start (by decide +kernel) rfl rfl (fun X a d h ret => ?_)
  have h : Ok X cX1_drop RX1 (t1 d) 0 0 := h
  show JJ X (w1 a d (nI n, nI es.length, fe, se, rd, te, wt, wE, wP, wX, wY)) [some (.ref (a 0)), some (.int x), none] 0 []
  have bad : ¬ gp_pt es.length x → JJ X (w1 a d (nI n, nI es.length, fe, se, rd, te, wt, wE, wP, wX, wY)) [some (.ref (a 0)), some (.int x), none] 12 [] := by
    intro hb
    refine x_iconst (-1) h dX1_drop_12 (by decide) ?_
    exact ret _ _ _ _ dX1_drop_13 rfl (Or.inr ⟨hb, rfl, hu⟩)
  refine x_iload_n h dX1_drop_0 rfl ?_
  refine x_if_lt 12 h dX1_drop_1 (by decide) (fun c1 => ?_) (fun c1 => ?_)
  · exact bad (gp_pt_not_neg (by omega) c1)
  · refine x_iload_n h dX1_drop_4 rfl ?_
    refine x_aload_n h dX1_drop_5 rfl ?_
    refine g1_ec h dX1_drop_6 ?_
    refine x_icmp_lt 14 h dX1_drop_9 (by decide) (fun c2 => ?_) (fun c2 => ?_)
    · obtain ⟨i, hi, rfl⟩ := gp_pt_of (by omega) c1 (Int32.not_le.mpr c2)
      have loop : ∀ (k j : Nat), i ≤ j → j ≤ es.length - 1 → es.length ≤ j + k → JJ X (w1 a d (nI n, nI (es.length - 1), gp_mv fe i j, gp_mv se i j, rd, te, wt, wE, wP, wX, wY)) [some (.ref (a 0)), some (.int (nI i)), some (.int (nI j))] 26 [] := by
        intro k
        induction k with
        | zero => intro j h1 h2 h3; omega
        | succ k ih =>
          intro j h0 h1 h2
          refine x_iload_n h dX1_drop_26 rfl ?_
          refine x_aload_n h dX1_drop_27 rfl ?_
          refine g1_ec h dX1_drop_28 ?_
          refine y_icmp_ge 68 h dX1_drop_31 (by decide) (by omega) (by omega) (fun c3 => ?_) (fun c3 => ?_)
          · have hj : j = es.length - 1 := by omega
            subst hj
            refine x_aload_n h dX1_drop_68 rfl ?_
            refine x_iconst (nI 0) h dX1_drop_69 (by decide) ?_
            refine p1_rd h dX1_drop_70 rfl rfl ?_
            refine x_aload_n h dX1_drop_73 rfl ?_
            refine g1_ec h dX1_drop_74 ?_
            refine ret _ _ _ _ dX1_drop_77 rfl (Or.inl ⟨i, hi, rfl, rfl, ?_⟩)
            have hl : (es.eraseIdx i).length = es.length - 1 := List.length_eraseIdx_of_lt hi
            exact ⟨_, _, te, wt, wE, wP, wX, wY, by rw [hl], gE_mv hes hi, hn, hn1, by omega⟩
          · obtain ⟨e, he, hfe, hse, he1, he2, -⟩ := gE_at hes (show j + 1 < es.length by omega)
            refine x_aload_n h dX1_drop_34 rfl ?_
            refine g1_fe h dX1_drop_35 ?_
            refine x_iload_n h dX1_drop_38 rfl ?_
            refine x_aload_n h dX1_drop_39 rfl ?_
            refine g1_fe h dX1_drop_40 ?_
            refine x_iload_n h dX1_drop_43 rfl ?_
            refine x_iconst (nI 1) h dX1_drop_44 (by decide) ?_
            refine y_iadd h dX1_drop_45 ?_
            refine l1_fe h dX1_drop_46 (by omega) ?_
            rw [gp_mv_at]
            refine a1_fe (fe (j + 1)) h dX1_drop_47 (by omega) (by rw [hfe]; exact n_nb (by omega)) ?_
            rw [gp_mv_s fe h0]
            refine x_aload_n h dX1_drop_48 rfl ?_
            refine g1_se h dX1_drop_49 ?_
            refine x_iload_n h dX1_drop_52 rfl ?_
            refine x_aload_n h dX1_drop_53 rfl ?_
            refine g1_se h dX1_drop_54 ?_
            refine x_iload_n h dX1_drop_57 rfl ?_
            refine x_iconst (nI 1) h dX1_drop_58 (by decide) ?_
            refine y_iadd h dX1_drop_59 ?_
            refine l1_se h dX1_drop_60 (by omega) ?_
            rw [gp_mv_at]
            refine a1_se (se (j + 1)) h dX1_drop_61 (by omega) (by rw [hse]; exact n_nb (by omega)) ?_
            rw [gp_mv_s se h0]
            refine ic_3_2 h dX1_drop_62 rfl ?_
            refine x_goto 26 h dX1_drop_65 (by decide) ?_
            exact ih (j + 1) (by omega) (by omega) (by omega)
      refine x_aload_n h dX1_drop_14 rfl ?_
      refine x_dup h dX1_drop_15 rfl ?_
      refine g1_ec h dX1_drop_16 ?_
      refine x_iconst (nI 1) h dX1_drop_19 (by decide) ?_
      refine y_isub h dX1_drop_20 (by omega) ?_
      refine p1_ec h dX1_drop_21 ?_
      refine x_iload_n h dX1_drop_24 rfl ?_
      refine is_3_2 h dX1_drop_25 rfl ?_
      have hh := loop es.length i (Nat.le_refl _) (by omega) (by omega)
      rw [gp_mv_0, gp_mv_0] at hh
      exact hh
    · exact bad (gp_pt_not_ge (by omega) (Int32.not_lt.mp c2))
theorem m1_merge {n : Nat} {es : List (Nat × Nat)} {u : S1} (hu : G1 n es u) (x : Int32) : C1_merge [.int x] u (fun r u' => ∃ es', gp_Rmerge es x r es' ∧ G1 n es' u') := by
  have hu0 := hu
  obtain ⟨fe, se, rd, te, wt, wE, wP, wX, wY, rfl, hes, hrd, hn, hn1, hm⟩ := hu0
  refine Mi.start (by decide +kernel) rfl rfl (fun X a d h ret => ?_)
  have h : Ok X cX1_merge RX1 (t1 d) 1 22 := h
  show JJ X (w1 a d (nI n, nI es.length, fe, se, rd, te, wt, wE, wP, wX, wY)) [some (.ref (a 0)), some (.int x), none, none, none, none, none] 0 []
  have bad : ¬ gp_pt es.length x → JJ X (w1 a d (nI n, nI es.length, fe, se, rd, te, wt, wE, wP, wX, wY)) [some (.ref (a 0)), some (.int x), none, none, none, none, none] 12 [] := by
    intro hb
    refine x_iconst (-1) h dX1_merge_12 (by decide) ?_
    exact ret _ _ _ _ dX1_merge_13 rfl ⟨es, Or.inr ⟨hb, rfl, rfl⟩, hu⟩
  refine x_iload_n h dX1_merge_0 rfl ?_
  refine x_if_lt 12 h dX1_merge_1 (by decide) (fun c1 => ?_) (fun c1 => ?_)
  · exact bad (gp_pt_not_neg (by omega) c1)
  · refine x_iload_n h dX1_merge_4 rfl ?_
    refine x_aload_n h dX1_merge_5 rfl ?_
    refine g1_ec h dX1_merge_6 ?_
    refine x_icmp_lt 14 h dX1_merge_9 (by decide) (fun c2 => ?_) (fun c2 => ?_)
    · obtain ⟨i, hi, rfl⟩ := gp_pt_of (by omega) c1 (Int32.not_le.mpr c2)
      obtain ⟨e, he, hfe, hse, he1, he2, -⟩ := gE_at hes hi
      have hl : (es.eraseIdx i).length = es.length - 1 := List.length_eraseIdx_of_lt hi
      refine x_aload_n h dX1_merge_14 rfl ?_
      refine g1_fe h dX1_merge_15 ?_
      refine x_iload_n h dX1_merge_18 rfl ?_
      refine l1_fe h dX1_merge_19 (by omega) ?_
      rw [hfe]
      refine is_7_2 h dX1_merge_20 rfl ?_
      refine x_aload_n h dX1_merge_21 rfl ?_
      refine g1_se h dX1_merge_22 ?_
      refine x_iload_n h dX1_merge_25 rfl ?_
      refine l1_se h dX1_merge_26 (by omega) ?_
      rw [hse]
      have loop : ∀ (k j : Nat) (fe se te : Nat → Int32) (wt : Int32) (wE wP wX wY : Nat → Int32), j ≤ es.length - 1 → es.length ≤ j + k → gE n (gp_rl e j (es.eraseIdx i)) fe se → JJ X (w1 a d (nI n, nI (es.eraseIdx i).length, fe, se, nI 0, te, wt, wE, wP, wX, wY)) [some (.ref (a 0)), some (.int (nI i)), some (.int (nI e.1)), some (.int (nI e.2)), some (.int (nI (min e.1 e.2))), some (.int (nI (max e.1 e.2))), some (.int (nI j))] 61 [] := by
        intro k
        induction k with
        | zero => intro j fe se te wt wE wP wX wY h1 h2; omega
        | succ k ih =>
          intro j fe se te wt wE wP wX wY h1 h2 hg
          refine x_iload h dX1_merge_61 rfl ?_
          refine x_aload_n h dX1_merge_63 rfl ?_
          refine g1_ec h dX1_merge_64 ?_
          refine y_icmp_ge 120 h dX1_merge_67 (by decide) (by omega) (by omega) (fun c3 => ?_) (fun c3 => ?_)
          · have hj : j = (es.eraseIdx i).length := by omega
            refine x_aload_n h dX1_merge_120 rfl ?_
            refine g1_ec h dX1_merge_121 ?_
            refine ret _ _ _ _ dX1_merge_124 rfl ⟨_, Or.inl ⟨i, e, he, rfl, by rw [hl], rfl⟩, ?_⟩
            rw [← gp_rl_all, ← hj]
            exact ⟨fe, se, nI 0, te, wt, wE, wP, wX, wY, by rw [gp_rl_len, hj], hg, Or.inl nI_0, hn, hn1, by rw [gp_rl_len]; omega⟩
          · obtain ⟨q, hq⟩ : ∃ q, (es.eraseIdx i)[j]? = some q := ⟨_, List.getElem?_eq_getElem c3⟩
            have hq2 := hg j _ (gp_rl_at e _ hq)
            rw [if_neg (by omega)] at hq2
            obtain ⟨hfj, hsj, hq1, hq2⟩ := hq2
            have t114 : ∀ (fe' se' : Nat → Int32), (∀ k, k ≠ j → fe' k = fe k) → (∀ k, k ≠ j → se' k = se k) → fe' j = nI (gp_mg e q).1 → se' j = nI (gp_mg e q).2 → JJ X (w1 a d (nI n, nI (es.eraseIdx i).length, fe', se', nI 0, te, wt, wE, wP, wX, wY)) [some (.ref (a 0)), some (.int (nI i)), some (.int (nI e.1)), some (.int (nI e.2)), some (.int (nI (min e.1 e.2))), some (.int (nI (max e.1 e.2))), some (.int (nI j))] 114 [] := by
              intro fe' se' a1 a2 a3 a4
              refine ic_7_6 h dX1_merge_114 rfl ?_
              refine x_goto 61 h dX1_merge_117 (by decide) ?_
              exact ih (j + 1) fe' se' te wt wE wP wX wY (by omega) (by omega) (gE_rl hg hq a1 a2 a3 a4)
            have t92 : ∀ (fe' : Nat → Int32), (∀ k, k ≠ j → fe' k = fe k) → fe' j = nI (gp_mg e q).1 → JJ X (w1 a d (nI n, nI (es.eraseIdx i).length, fe', se, nI 0, te, wt, wE, wP, wX, wY)) [some (.ref (a 0)), some (.int (nI i)), some (.int (nI e.1)), some (.int (nI e.2)), some (.int (nI (min e.1 e.2))), some (.int (nI (max e.1 e.2))), some (.int (nI j))] 92 [] := by
              intro fe' a1 a3
              refine x_aload_n h dX1_merge_92 rfl ?_
              refine g1_se h dX1_merge_93 ?_
              refine x_iload h dX1_merge_96 rfl ?_
              refine l1_se h dX1_merge_98 (by omega) ?_
              rw [hsj]
              refine x_iload h dX1_merge_99 rfl ?_
              refine y_icmp_ne 114 h dX1_merge_101 (by decide) (by omega) (by omega) (fun c5 => ?_) (fun c5 => ?_)
              · exact t114 fe' se a1 (fun _ _ => rfl) a3 (by rw [hsj, show (gp_mg e q).2 = q.2 from if_neg c5])
              · refine x_aload_n h dX1_merge_104 rfl ?_
                refine g1_se h dX1_merge_105 ?_
                refine x_iload h dX1_merge_108 rfl ?_
                refine x_iload h dX1_merge_110 rfl ?_
                refine x_i2b (nI (min e.1 e.2)) h dX1_merge_112 (n_i2b _ (by omega)) ?_
                refine a1_se (nI (min e.1 e.2)) h dX1_merge_113 (by omega) (n_nb (by omega)) ?_
                exact t114 fe' _ a1 (fun k hk => pk_un hk) a3 (by rw [pk_us, show (gp_mg e q).2 = min e.1 e.2 from if_pos c5])
            refine x_aload_n h dX1_merge_70 rfl ?_
            refine g1_fe h dX1_merge_71 ?_
            refine x_iload h dX1_merge_74 rfl ?_
            refine l1_fe h dX1_merge_76 (by omega) ?_
            rw [hfj]
            refine x_iload h dX1_merge_77 rfl ?_
            refine y_icmp_ne 92 h dX1_merge_79 (by decide) (by omega) (by omega) (fun c4 => ?_) (fun c4 => ?_)
            · exact t92 fe (fun _ _ => rfl) (by rw [hfj, show (gp_mg e q).1 = q.1 from if_neg c4])
            · refine x_aload_n h dX1_merge_82 rfl ?_
              refine g1_fe h dX1_merge_83 ?_
              refine x_iload h dX1_merge_86 rfl ?_
              refine x_iload h dX1_merge_88 rfl ?_
              refine x_i2b (nI (min e.1 e.2)) h dX1_merge_90 (n_i2b _ (by omega)) ?_
              refine a1_fe (nI (min e.1 e.2)) h dX1_merge_91 (by omega) (n_nb (by omega)) ?_
              exact t92 _ (fun k hk => pk_un hk) (by rw [pk_us, show (gp_mg e q).1 = min e.1 e.2 from if_pos c4])
      have t50 : JJ X (w1 a d (nI n, nI es.length, fe, se, rd, te, wt, wE, wP, wX, wY)) [some (.ref (a 0)), some (.int (nI i)), some (.int (nI e.1)), some (.int (nI e.2)), some (.int (nI (min e.1 e.2))), none, none] 50 [.int (nI (max e.1 e.2))] := by
        refine is_7_5 h dX1_merge_50 rfl ?_
        refine x_aload_n h dX1_merge_52 rfl ?_
        refine x_iload_n h dX1_merge_53 rfl ?_
        refine k1_drop h dX1_merge_54 (m1_drop hu (nI i)) (by decide) (by decide) (Nat.le_of_ble_eq_true rfl) (fun r u' hp => ?_)
        rcases hp with ⟨i', hi', hii, hr, hG⟩ | ⟨hb, -⟩
        · have : i = i' := (n_eq (by omega) (by omega)).mp hii
          subst this
          obtain ⟨fe1, se1, te1, wt1, wE1, wP1, wX1, wY1, rfl, hg1, -⟩ := hG
          refine x_pop h dX1_merge_57 rfl ?_
          refine x_iconst (nI 0) h dX1_merge_58 (by decide) ?_
          refine is_7_6 h dX1_merge_59 rfl ?_
          exact loop es.length 0 fe1 se1 te1 wt1 wE1 wP1 wX1 wY1 (by omega) (by omega) hg1
        · exact absurd ⟨i, hi, rfl⟩ hb
      have t38 : JJ X (w1 a d (nI n, nI es.length, fe, se, rd, te, wt, wE, wP, wX, wY)) [some (.ref (a 0)), some (.int (nI i)), some (.int (nI e.1)), some (.int (nI e.2)), none, none, none] 38 [.int (nI (min e.1 e.2))] := by
        refine is_7_4 h dX1_merge_38 rfl ?_
        refine x_iload_n h dX1_merge_40 rfl ?_
        refine x_iload_n h dX1_merge_41 rfl ?_
        refine y_icmp_ge 49 h dX1_merge_42 (by decide) (by omega) (by omega) (fun c6 => ?_) (fun c6 => ?_)
        · refine x_iload_n h dX1_merge_49 rfl ?_
          refine x_top (v := nI (max e.1 e.2)) (by congr 1; omega) ?_
          exact t50
        · refine x_iload_n h dX1_merge_45 rfl ?_
          refine x_top (v := nI (max e.1 e.2)) (by congr 1; omega) ?_
          refine x_goto 50 h dX1_merge_46 (by decide) ?_
          exact t50
      refine is_7_3 h dX1_merge_27 rfl ?_
      refine x_iload_n h dX1_merge_28 rfl ?_
      refine x_iload_n h dX1_merge_29 rfl ?_
      refine y_icmp_ge 37 h dX1_merge_30 (by decide) (by omega) (by omega) (fun c7 => ?_) (fun c7 => ?_)
      · refine x_iload_n h dX1_merge_37 rfl ?_
        refine x_top (v := nI (min e.1 e.2)) (by congr 1; omega) ?_
        exact t38
      · refine x_iload_n h dX1_merge_33 rfl ?_
        refine x_top (v := nI (min e.1 e.2)) (by congr 1; omega) ?_
        refine x_goto 38 h dX1_merge_34 (by decide) ?_
        exact t38
    · exact bad (gp_pt_not_ge (by omega) (Int32.not_lt.mp c2))
end
section
set_option maxRecDepth 100000
def gp_Rcol (n : Nat) (es : List (Nat × Nat)) (x r : Int32) : Prop := (∃ k : Nat, k ≤ 6 ∧ x = nI k ∧ r = nI (gp_sc (k ^ n) (gp_proper k es))) ∨ ((x < 0 ∨ nI 6 < x) ∧ r = -1)
def gp_bal (n k : Nat) (es : List (Nat × Nat)) (c : Nat) : Prop := ∀ u, u < n → gp_fl (k - 1) es c (fun _ => 0) u % (k : Int) = 0
def gp_Rflow (n : Nat) (es : List (Nat × Nat)) (x r : Int32) : Prop := (∃ k : Nat, 1 ≤ k ∧ k ≤ 4 ∧ x = nI k ∧ r = nI (gp_sc ((k - 1) ^ es.length) (gp_bal n k es))) ∨ ((x < nI 1 ∨ nI 4 < x) ∧ r = -1)
theorem n_neg (p : Int) : -Int32.ofInt p = Int32.ofInt (-p) := (Int32.ofInt_neg p).symm
theorem n_flow (m n c t : Nat) (h1 : n = c + t) (h2 : t ≤ m) : nI m - nI n + nI c = nI (m - t) := by
  have e1 : nI n = nI c + nI t := by rw [nI_add, h1]
  have e2 : nI m = nI (m - t) + nI t := by rw [nI_add]; congr 1; omega
  rw [e1, e2]
  generalize nI c = C
  generalize nI t = T
  generalize nI (m - t) = M
  grind
theorem m1_colourings {n : Nat} {es : List (Nat × Nat)} {u : S1} (hu : G1 n es u) (x : Int32) : C1_colourings [.int x] u (fun r u' => G1 n es u' ∧ gp_Rcol n es x r) := by
  refine Mi.start (by decide +kernel) rfl rfl (fun X a d h ret => ?_)
  have h : Ok X cX1_colourings RX1 (t1 d) 5 132 := h
  show JJ X (w1 a d u) [some (.ref (a 0)), some (.int x), none, none, none] 0 []
  have bad : (x < 0 ∨ nI 6 < x) → JJ X (w1 a d u) [some (.ref (a 0)), some (.int x), none, none, none] 10 [] := by
    intro hb
    refine x_iconst (-1) h dX1_colourings_10 (by decide) ?_
    exact ret _ _ _ _ dX1_colourings_11 rfl ⟨hu, Or.inr ⟨hb, rfl⟩⟩
  refine x_iload_n h dX1_colourings_0 rfl ?_
  refine x_if_lt 10 h dX1_colourings_1 (by decide) (fun c1 => ?_) (fun c1 => ?_)
  · exact bad (Or.inl c1)
  · refine x_iload_n h dX1_colourings_4 rfl ?_
    refine x_bipush (nI 6) h dX1_colourings_5 (by decide) ?_
    refine x_icmp_le 12 h dX1_colourings_7 (by decide) (fun c2 => ?_) (fun c2 => ?_)
    · obtain ⟨k, hk, rfl⟩ := nI_of2 (n := 6) (M := nI 6) (by decide) c1 c2
      have hu0 := hu
      obtain ⟨fe, se, rd, te, wt, wE, wP, wX, wY, rfl, hes, hrd, hn, hn1, hm⟩ := hu0
      refine x_aload_n h dX1_colourings_12 rfl ?_
      refine k1_parts h dX1_colourings_13 (m1_parts hn hes hm) (by decide) (by decide) (Nat.le_of_ble_eq_true rfl) (fun r u' hp => ?_)
      obtain ⟨rfl, rfl⟩ := hp
      refine is_5_2 h dX1_colourings_16 rfl ?_
      refine x_aload_n h dX1_colourings_17 rfl ?_
      refine x_iconst (Int32.ofInt 1) h dX1_colourings_18 (by decide) ?_
      refine x_iload_n h dX1_colourings_19 rfl ?_
      refine x_isub h dX1_colourings_20 ?_
      refine x_top (v := Int32.ofInt (1 - (k : Int))) (by rw [n_ofInt, Int32.ofInt_sub]) ?_
      refine x_iconst (Int32.ofInt 0) h dX1_colourings_21 (by decide) ?_
      refine k1_valueAt h dX1_colourings_22 (m1_valueAt hu (1 - (k : Int)) 0) (by decide) (by decide) (Nat.le_of_ble_eq_true rfl) (fun r u' hp => ?_)
      obtain ⟨hu1, rfl⟩ := hp
      clear hu bad
      obtain ⟨fe, se, rd, te, wt, wE, wP, wX, wY, rfl, hes, hrd, hn, hn1, hm⟩ := id hu1
      have hcc := gp_cc_le (gp_dr gp_id es) n
      have hcol := gp_colour n k (by omega) es (gE_es hes)
      generalize hC : gp_cc (gp_dr gp_id es) n = C at hcc hcol ⊢
      generalize hV : gp_val (1 - (k : Int)) 0 es gp_id = V at hcol ⊢
      have loop : ∀ (q i : Nat), i ≤ C → C + 1 ≤ i + q → JJ X (w1 a d (nI n, nI es.length, fe, se, rd, te, wt, wE, wP, wX, wY)) [some (.ref (a 0)), some (.int (nI k)), some (.int (nI C)), some (.int (Int32.ofInt (V * (k : Int) ^ i))), some (.int (nI i))] 29 [] := by
        intro q
        induction q with
        | zero => intro i h1 h2; omega
        | succ q ih =>
          intro i h1 h2
          refine x_iload h dX1_colourings_29 rfl ?_
          refine x_iload_n h dX1_colourings_31 rfl ?_
          refine y_icmp_ge 45 h dX1_colourings_32 (by decide) (by omega) (by omega) (fun c3 => ?_) (fun c3 => ?_)
          · have hi : i = C := by omega
            subst hi
            refine x_aload_n h dX1_colourings_45 rfl ?_
            refine g1_n h dX1_colourings_46 ?_
            refine x_iload_n h dX1_colourings_49 rfl ?_
            refine y_isub h dX1_colourings_50 (by omega) ?_
            refine x_iconst (nI 1) h dX1_colourings_51 (by decide) ?_
            refine y_iand1 h dX1_colourings_52 (by omega) ?_
            refine y_if_ne 60 h dX1_colourings_53 (by decide) (by omega) (fun c4 => ?_) (fun c4 => ?_)
            · refine x_iload_n h dX1_colourings_60 rfl ?_
              refine x_ineg h dX1_colourings_61 ?_
              rw [n_neg]
              refine ret _ _ _ _ dX1_colourings_62 rfl ⟨hu1, Or.inl ⟨k, hk, rfl, ?_⟩⟩
              rw [n_ofInt, hcol, show gp_sg (n - i) = -1 from if_neg c4]
              congr 1
              omega
            · refine x_iload_n h dX1_colourings_56 rfl ?_
              refine x_goto 62 h dX1_colourings_57 (by decide) ?_
              refine ret _ _ _ _ dX1_colourings_62 rfl ⟨hu1, Or.inl ⟨k, hk, rfl, ?_⟩⟩
              rw [n_ofInt, hcol, show gp_sg (n - i) = 1 from if_pos c4, Int.one_mul]
          · refine x_iload_n h dX1_colourings_35 rfl ?_
            refine x_iload_n h dX1_colourings_36 rfl ?_
            refine x_imul h dX1_colourings_37 ?_
            refine x_top (v := Int32.ofInt (V * (k : Int) ^ (i + 1))) (by rw [n_ofInt, n_vm, Int.pow_succ, Int.mul_assoc]) ?_
            refine is_5_3 h dX1_colourings_38 rfl ?_
            refine ic_5_4 h dX1_colourings_39 rfl ?_
            refine x_goto 29 h dX1_colourings_42 (by decide) ?_
            exact ih (i + 1) (by omega) (by omega)
      refine is_5_3 h dX1_colourings_25 rfl ?_
      refine x_iconst (nI 0) h dX1_colourings_26 (by decide) ?_
      refine is_5_4 h dX1_colourings_27 rfl ?_
      have hh := loop (C + 1) 0 (by omega) (by omega)
      rw [Int.pow_zero, Int.mul_one] at hh
      exact hh
    · exact bad (Or.inr (Int32.not_le.mp c2))
theorem m1_flows {n : Nat} {es : List (Nat × Nat)} {u : S1} (hu : G1 n es u) (x : Int32) : C1_flows [.int x] u (fun r u' => G1 n es u' ∧ gp_Rflow n es x r) := by
  refine Mi.start (by decide +kernel) rfl rfl (fun X a d h ret => ?_)
  have h : Ok X cX1_flows RX1 (t1 d) 5 132 := h
  show JJ X (w1 a d u) [some (.ref (a 0)), some (.int x), none, none] 0 []
  have bad : (x < nI 1 ∨ nI 4 < x) → JJ X (w1 a d u) [some (.ref (a 0)), some (.int x), none, none] 10 [] := by
    intro hb
    refine x_iconst (-1) h dX1_flows_10 (by decide) ?_
    exact ret _ _ _ _ dX1_flows_11 rfl ⟨hu, Or.inr ⟨hb, rfl⟩⟩
  refine x_iload_n h dX1_flows_0 rfl ?_
  refine x_iconst (nI 1) h dX1_flows_1 (by decide) ?_
  refine x_icmp_lt 10 h dX1_flows_2 (by decide) (fun c1 => ?_) (fun c1 => ?_)
  · exact bad (Or.inl c1)
  · refine x_iload_n h dX1_flows_5 rfl ?_
    refine x_iconst (nI 4) h dX1_flows_6 (by decide) ?_
    refine x_icmp_le 12 h dX1_flows_7 (by decide) (fun c2 => ?_) (fun c2 => ?_)
    · have c0 : ¬ x < 0 := fun q => c1 (Int32.lt_trans q (by decide))
      obtain ⟨k, hk, rfl⟩ := nI_of2 (n := 4) (M := nI 4) (by decide) c0 c2
      have hk1 : 1 ≤ k := by
        apply Classical.byContradiction
        intro q
        exact c1 ((n_lt (by omega) (by omega)).mpr (by omega))
      have hu0 := hu
      obtain ⟨fe, se, rd, te, wt, wE, wP, wX, wY, rfl, hes, hrd, hn, hn1, hm⟩ := hu0
      refine x_aload_n h dX1_flows_12 rfl ?_
      refine k1_parts h dX1_flows_13 (m1_parts hn hes hm) (by decide) (by decide) (Nat.le_of_ble_eq_true rfl) (fun r u' hp => ?_)
      obtain ⟨rfl, rfl⟩ := hp
      refine is_4_2 h dX1_flows_16 rfl ?_
      refine x_aload_n h dX1_flows_17 rfl ?_
      refine x_iconst (Int32.ofInt 0) h dX1_flows_18 (by decide) ?_
      refine x_iconst (Int32.ofInt 1) h dX1_flows_19 (by decide) ?_
      refine x_iload_n h dX1_flows_20 rfl ?_
      refine x_isub h dX1_flows_21 ?_
      refine x_top (v := Int32.ofInt (1 - (k : Int))) (by rw [n_ofInt, Int32.ofInt_sub]) ?_
      refine k1_valueAt h dX1_flows_22 (m1_valueAt hu 0 (1 - (k : Int))) (by decide) (by decide) (Nat.le_of_ble_eq_true rfl) (fun r u' hp => ?_)
      obtain ⟨hu1, rfl⟩ := hp
      clear hu bad
      obtain ⟨fe, se, rd, te, wt, wE, wP, wX, wY, rfl, hes, hrd, hn, hn1, hm⟩ := id hu1
      have hrk := gp_rank (gE_es hes)
      have hrl := gp_rk_len es gp_id
      have hfl := gp_flows n k hk1 hk es (gE_es hes)
      have hnf := n_flow es.length n (gp_cc (gp_dr gp_id es) n) (gp_rk es gp_id) (by omega) hrl
      have hpar : gp_sg (gp_rk es gp_id + es.length) = gp_sg (es.length - gp_rk es gp_id) := gp_sg_par (by omega)
      rw [hpar] at hfl
      refine is_4_3 h dX1_flows_25 rfl ?_
      refine x_aload_n h dX1_flows_26 rfl ?_
      refine g1_ec h dX1_flows_27 ?_
      refine x_aload_n h dX1_flows_30 rfl ?_
      refine g1_n h dX1_flows_31 ?_
      refine x_isub h dX1_flows_34 ?_
      refine x_iload_n h dX1_flows_35 rfl ?_
      refine x_iadd h dX1_flows_36 ?_
      rw [hnf]
      refine x_iconst (nI 1) h dX1_flows_37 (by decide) ?_
      refine y_iand1 h dX1_flows_38 (by omega) ?_
      refine y_if_ne 46 h dX1_flows_39 (by decide) (by omega) (fun c4 => ?_) (fun c4 => ?_)
      · refine x_iload_n h dX1_flows_46 rfl ?_
        refine x_ineg h dX1_flows_47 ?_
        rw [n_neg]
        refine ret _ _ _ _ dX1_flows_48 rfl ⟨hu1, Or.inl ⟨k, hk1, hk, rfl, ?_⟩⟩
        rw [n_ofInt]
        congr 1
        refine Eq.trans ?_ hfl.symm
        rw [show gp_sg (es.length - gp_rk es gp_id) = -1 from if_neg c4]
        omega
      · refine x_iload_n h dX1_flows_42 rfl ?_
        refine x_goto 48 h dX1_flows_43 (by decide) ?_
        refine ret _ _ _ _ dX1_flows_48 rfl ⟨hu1, Or.inl ⟨k, hk1, hk, rfl, ?_⟩⟩
        rw [n_ofInt]
        congr 1
        refine Eq.trans ?_ hfl.symm
        rw [show gp_sg (es.length - gp_rk es gp_id) = 1 from if_pos c4, Int.one_mul]
    · exact bad (Or.inr (Int32.not_le.mp c2))
end
section
set_option maxRecDepth 100000
/-- the reference's state: the graph es on n points -/
def G2 (n : Nat) (es : List (Nat × Nat)) (u : S2) : Prop := ∃ (fi se la su : Nat → Int32) (po : Nat → Int64), u = (nI n, nI es.length, fi, se, la, su, po) ∧ gE n es fi se ∧ n ≤ 6 ∧ 1 ≤ n ∧ es.length ≤ 8
theorem m2_isPoint {n : Nat} {mm : Int32} {fi se la su : Nat → Int32} {po : Nat → Int64} (hn : n ≤ 6) (x : Int32) : C2_isPoint [.int x] (nI n, mm, fi, se, la, su, po) (fun r u' => u' = (nI n, mm, fi, se, la, su, po) ∧ ((gp_pt n x ∧ r = nI 1) ∨ (¬ gp_pt n x ∧ r = nI 0))) := by
  refine Mi.start (by decide +kernel) rfl rfl (fun X a d h ret => ?_)
  have h : Ok X cX2_isPoint RX2 (t2 d) 0 0 := h
  show JJ X (w2 a d (nI n, mm, fi, se, la, su, po)) [some (.ref (a 0)), some (.int x)] 0 []
  have bad : ¬ gp_pt n x → JJ X (w2 a d (nI n, mm, fi, se, la, su, po)) [some (.ref (a 0)), some (.int x)] 16 [] := by
    intro hb
    refine x_iconst (nI 0) h dX2_isPoint_16 (by decide) ?_
    exact ret _ _ _ _ dX2_isPoint_17 rfl ⟨rfl, Or.inr ⟨hb, rfl⟩⟩
  refine x_iload_n h dX2_isPoint_0 rfl ?_
  refine x_if_lt 16 h dX2_isPoint_1 (by decide) (fun c1 => ?_) (fun c1 => ?_)
  · exact bad (gp_pt_not_neg (by omega) c1)
  · refine x_iload_n h dX2_isPoint_4 rfl ?_
    refine x_aload_n h dX2_isPoint_5 rfl ?_
    refine g2_n h dX2_isPoint_6 ?_
    refine x_icmp_ge 16 h dX2_isPoint_9 (by decide) (fun c2 => ?_) (fun c2 => ?_)
    · exact bad (gp_pt_not_ge (by omega) c2)
    · refine x_iconst (nI 1) h dX2_isPoint_12 (by decide) ?_
      refine x_goto 17 h dX2_isPoint_13 (by decide) ?_
      exact ret _ _ _ _ dX2_isPoint_17 rfl ⟨rfl, Or.inl ⟨gp_pt_of (by omega) c1 c2, rfl⟩⟩
theorem m2_isEdge {n : Int32} {m : Nat} {fi se la su : Nat → Int32} {po : Nat → Int64} (hm : m ≤ 8) (x : Int32) : C2_isEdge [.int x] (n, nI m, fi, se, la, su, po) (fun r u' => u' = (n, nI m, fi, se, la, su, po) ∧ ((gp_pt m x ∧ r = nI 1) ∨ (¬ gp_pt m x ∧ r = nI 0))) := by
  refine Mi.start (by decide +kernel) rfl rfl (fun X a d h ret => ?_)
  have h : Ok X cX2_isEdge RX2 (t2 d) 0 0 := h
  show JJ X (w2 a d (n, nI m, fi, se, la, su, po)) [some (.ref (a 0)), some (.int x)] 0 []
  have bad : ¬ gp_pt m x → JJ X (w2 a d (n, nI m, fi, se, la, su, po)) [some (.ref (a 0)), some (.int x)] 16 [] := by
    intro hb
    refine x_iconst (nI 0) h dX2_isEdge_16 (by decide) ?_
    exact ret _ _ _ _ dX2_isEdge_17 rfl ⟨rfl, Or.inr ⟨hb, rfl⟩⟩
  refine x_iload_n h dX2_isEdge_0 rfl ?_
  refine x_if_lt 16 h dX2_isEdge_1 (by decide) (fun c1 => ?_) (fun c1 => ?_)
  · exact bad (gp_pt_not_neg (by omega) c1)
  · refine x_iload_n h dX2_isEdge_4 rfl ?_
    refine x_aload_n h dX2_isEdge_5 rfl ?_
    refine g2_mm h dX2_isEdge_6 ?_
    refine x_icmp_ge 16 h dX2_isEdge_9 (by decide) (fun c2 => ?_) (fun c2 => ?_)
    · exact bad (gp_pt_not_ge (by omega) c2)
    · refine x_iconst (nI 1) h dX2_isEdge_12 (by decide) ?_
      refine x_goto 17 h dX2_isEdge_13 (by decide) ?_
      exact ret _ _ _ _ dX2_isEdge_17 rfl ⟨rfl, Or.inl ⟨gp_pt_of (by omega) c1 c2, rfl⟩⟩
theorem m2_edges {n mm : Int32} {fi se la su : Nat → Int32} {po : Nat → Int64} : C2_edges [] (n, mm, fi, se, la, su, po) (fun r u' => u' = (n, mm, fi, se, la, su, po) ∧ r = mm) := by
  refine Mi.start (by decide +kernel) rfl rfl (fun X a d h ret => ?_)
  have h : Ok X cX2_edges RX2 (t2 d) 0 0 := h
  show JJ X (w2 a d (n, mm, fi, se, la, su, po)) [some (.ref (a 0))] 0 []
  refine x_aload_n h dX2_edges_0 rfl ?_
  refine g2_mm h dX2_edges_1 ?_
  exact ret _ _ _ _ dX2_edges_4 rfl ⟨rfl, rfl⟩
theorem m2_in (u : S2) {s k : Nat} (hs : s < 2147483648) (hk : k < 32) : C2_in [.int (nI s), .int (nI k)] u (fun r u' => u' = u ∧ r = nI (s / 2 ^ k % 2)) := by
  refine Mi.start (by decide +kernel) rfl rfl (fun X a d h ret => ?_)
  have h : Ok X cX2_in RX2 (t2 d) 0 0 := h
  show JJ X (w2 a d u) [some (.ref (a 0)), some (.int (nI s)), some (.int (nI k))] 0 []
  refine x_iload_n h dX2_in_0 rfl ?_
  refine x_iload_n h dX2_in_1 rfl ?_
  refine y_ishr h dX2_in_2 (by omega) (by omega) ?_
  refine x_iconst (nI 1) h dX2_in_3 (by decide) ?_
  refine y_iand1 h dX2_in_4 (Nat.lt_of_le_of_lt (Nat.div_le_self _ _) (by omega)) ?_
  refine x_iconst (nI 1) h dX2_in_5 (by decide) ?_
  refine y_icmp_ne 13 h dX2_in_6 (by decide) (by omega) (by omega) (fun c1 => ?_) (fun c1 => ?_)
  · refine x_iconst (nI 0) h dX2_in_13 (by decide) ?_
    exact ret _ _ _ _ dX2_in_14 rfl ⟨rfl, by congr 1; omega⟩
  · refine x_iconst (nI 1) h dX2_in_9 (by decide) ?_
    refine x_goto 14 h dX2_in_10 (by decide) ?_
    exact ret _ _ _ _ dX2_in_14 rfl ⟨rfl, by congr 1; omega⟩
theorem m2_all {n : Int32} {m : Nat} {fi se la su : Nat → Int32} {po : Nat → Int64} (hm : m ≤ 8) : C2_all [] (n, nI m, fi, se, la, su, po) (fun r u' => u' = (n, nI m, fi, se, la, su, po) ∧ r = nI (2 ^ m - 1)) := by
  have hp8 := gp_pow8 hm
  refine Mi.start (by decide +kernel) rfl rfl (fun X a d h ret => ?_)
  have h : Ok X cX2_all RX2 (t2 d) 0 0 := h
  show JJ X (w2 a d (n, nI m, fi, se, la, su, po)) [some (.ref (a 0))] 0 []
  refine x_iconst (nI 1) h dX2_all_0 (by decide) ?_
  refine x_aload_n h dX2_all_1 rfl ?_
  refine g2_mm h dX2_all_2 ?_
  refine y_ishl h dX2_all_5 (by omega) (by omega) ?_
  rw [Nat.one_mul]
  refine x_iconst (nI 1) h dX2_all_6 (by decide) ?_
  refine y_isub h dX2_all_7 (by omega) ?_
  exact ret _ _ _ _ dX2_all_8 rfl ⟨rfl, rfl⟩
theorem m2_power (u : S2) {b t : Nat} (ht : t < 100) : C2_power [.int (nI b), .int (nI t)] u (fun r u' => u' = u ∧ r = nI (b ^ t)) := by
  refine Mi.start (by decide +kernel) rfl rfl (fun X a d h ret => ?_)
  have h : Ok X cX2_power RX2 (t2 d) 0 0 := h
  show JJ X (w2 a d u) [some (.ref (a 0)), some (.int (nI b)), some (.int (nI t)), none, none] 0 []
  have loop : ∀ (k i : Nat), i ≤ t → t + 1 ≤ i + k → JJ X (w2 a d u) [some (.ref (a 0)), some (.int (nI b)), some (.int (nI t)), some (.int (nI (b ^ i))), some (.int (nI i))] 5 [] := by
    intro k
    induction k with
    | zero => intro i h1 h2; omega
    | succ k ih =>
      intro i h1 h2
      refine x_iload h dX2_power_5 rfl ?_
      refine x_iload_n h dX2_power_7 rfl ?_
      refine y_icmp_ge 21 h dX2_power_8 (by decide) (by omega) (by omega) (fun c1 => ?_) (fun c1 => ?_)
      · have hi : i = t := by omega
        subst hi
        refine x_iload_n h dX2_power_21 rfl ?_
        exact ret _ _ _ _ dX2_power_22 rfl ⟨rfl, rfl⟩
      · refine x_iload_n h dX2_power_11 rfl ?_
        refine x_iload_n h dX2_power_12 rfl ?_
        refine y_imul h dX2_power_13 ?_
        rw [← Nat.pow_succ]
        refine is_5_3 h dX2_power_14 rfl ?_
        refine ic_5_4 h dX2_power_15 rfl ?_
        refine x_goto 5 h dX2_power_18 (by decide) ?_
        exact ih (i + 1) (by omega) (by omega)
  refine x_iconst (nI 1) h dX2_power_0 (by decide) ?_
  refine is_5_3 h dX2_power_1 rfl ?_
  refine x_iconst (nI 0) h dX2_power_2 (by decide) ?_
  refine is_5_4 h dX2_power_3 rfl ?_
  have hh := loop (t + 1) 0 (by omega) (by omega)
  rw [Nat.pow_zero] at hh
  exact hh
theorem m2_digit (u : S2) {c b p : Nat} (hc : c < 2147483648) (hb : 1 ≤ b) (hb2 : b < 100) (hp : p < 100) : C2_digit [.int (nI c), .int (nI b), .int (nI p)] u (fun r u' => u' = u ∧ r = nI (gp_dg b c p)) := by
  refine Mi.start (by decide +kernel) rfl rfl (fun X a d h ret => ?_)
  have h : Ok X cX2_digit RX2 (t2 d) 0 0 := h
  show JJ X (w2 a d u) [some (.ref (a 0)), some (.int (nI c)), some (.int (nI b)), some (.int (nI p)), none, none] 0 []
  have loop : ∀ (k i : Nat), i ≤ p → p + 1 ≤ i + k → JJ X (w2 a d u) [some (.ref (a 0)), some (.int (nI c)), some (.int (nI b)), some (.int (nI p)), some (.int (nI (c / b ^ i))), some (.int (nI i))] 6 [] := by
    intro k
    induction k with
    | zero => intro i h1 h2; omega
    | succ k ih =>
      intro i h1 h2
      have hle := Nat.div_le_self c (b ^ i)
      refine x_iload h dX2_digit_6 rfl ?_
      refine x_iload_n h dX2_digit_8 rfl ?_
      refine y_icmp_ge 33 h dX2_digit_9 (by decide) (by omega) (by omega) (fun c1 => ?_) (fun c1 => ?_)
      · have hi : i = p := by omega
        subst hi
        refine x_iload h dX2_digit_33 rfl ?_
        refine x_iload_n h dX2_digit_35 rfl ?_
        refine x_iconst (nI 1) h dX2_digit_36 (by decide) ?_
        refine y_icmp_ge 44 h dX2_digit_37 (by decide) (by omega) (by omega) (fun c2 => ?_) (fun c2 => ?_)
        · refine x_iload_n h dX2_digit_44 rfl ?_
          refine y_irem h dX2_digit_45 (by omega) (by omega) (by omega) ?_
          exact ret _ _ _ _ dX2_digit_46 rfl ⟨rfl, rfl⟩
        · omega
      · refine x_iload h dX2_digit_12 rfl ?_
        refine x_iload_n h dX2_digit_14 rfl ?_
        refine x_iconst (nI 1) h dX2_digit_15 (by decide) ?_
        refine y_icmp_ge 23 h dX2_digit_16 (by decide) (by omega) (by omega) (fun c2 => ?_) (fun c2 => ?_)
        · refine x_iload_n h dX2_digit_23 rfl ?_
          refine y_idiv h dX2_digit_24 (by omega) (by omega) (by omega) ?_
          rw [Nat.div_div_eq_div_mul, ← Nat.pow_succ]
          refine is_6_4 h dX2_digit_25 rfl ?_
          refine ic_6_5 h dX2_digit_27 rfl ?_
          refine x_goto 6 h dX2_digit_30 (by decide) ?_
          exact ih (i + 1) (by omega) (by omega)
        · omega
  refine x_iload_n h dX2_digit_0 rfl ?_
  refine is_6_4 h dX2_digit_1 rfl ?_
  refine x_iconst (nI 0) h dX2_digit_3 (by decide) ?_
  refine is_6_5 h dX2_digit_4 rfl ?_
  have hh := loop (p + 1) 0 (by omega) (by omega)
  rw [Nat.pow_zero, Nat.div_one] at hh
  exact hh
theorem m2_choose (u : S2) {x y : Nat} (hx : x < 9) (hy : y ≤ x) : C2_choose [.int (nI x), .int (nI y)] u (fun r u' => u' = u ∧ r = lN (gp_ch x y)) := by
  refine Ml.start (by decide +kernel) rfl rfl (fun X a d h ret => ?_)
  have h : Ok X cX2_choose RX2 (t2 d) 0 0 := h
  show JJ X (w2 a d u) [some (.ref (a 0)), some (.int (nI x)), some (.int (nI y)), none, none, none] 0 []
  have loop : ∀ (k i : Nat), i ≤ y → y + 1 ≤ i + k → JJ X (w2 a d u) [some (.ref (a 0)), some (.int (nI x)), some (.int (nI y)), some (.long (lN (gp_ch x i))), none, some (.int (nI (i + 1)))] 5 [] := by
    intro k
    induction k with
    | zero => intro i h1 h2; omega
    | succ k ih =>
      intro i h1 h2
      refine x_iload h dX2_choose_5 rfl ?_
      refine x_iload_n h dX2_choose_7 rfl ?_
      refine y_icmp_gt 31 h dX2_choose_8 (by decide) (by omega) (by omega) (fun c1 => ?_) (fun c1 => ?_)
      · have hi : i = y := by omega
        subst hi
        refine x_lload_n h dX2_choose_31 rfl ?_
        exact ret _ _ _ _ dX2_choose_32 ⟨rfl, rfl⟩
      · have hch := gp_ch_lt x hx i (by omega)
        have hmul : gp_ch x i * (x - i) ≤ 99 * 9 := Nat.mul_le_mul (by omega) (by omega)
        refine x_lload_n h dX2_choose_11 rfl ?_
        refine x_iload_n h dX2_choose_12 rfl ?_
        refine x_iload h dX2_choose_13 rfl ?_
        refine y_isub h dX2_choose_15 (by omega) ?_
        refine x_iconst (nI 1) h dX2_choose_16 (by decide) ?_
        refine y_iadd h dX2_choose_17 ?_
        rw [show x - (i + 1) + 1 = x - i by omega]
        refine x_i2l (lN (x - i)) h dX2_choose_18 (nI_l (by omega)) ?_
        refine x_lmul h dX2_choose_19 ?_
        rw [lN_mul]
        refine x_iload h dX2_choose_20 rfl ?_
        refine x_i2l (lN (i + 1)) h dX2_choose_22 (nI_l (by omega)) ?_
        refine x_ldiv h dX2_choose_23 ?_ ?_
        · intro q
          have := (pk_lEQ (a := i + 1) (b := 0) (by omega) (by omega)).mp q
          omega
        · rw [pk_lDiv (by omega) (by omega) (by omega)]
          refine ls_6_3 h dX2_choose_24 rfl ?_
          refine ic_6_5 h dX2_choose_25 rfl ?_
          refine x_goto 5 h dX2_choose_28 (by decide) ?_
          exact ih (i + 1) (by omega) (by omega)
  refine x_lconst (lN (gp_ch x 0)) h dX2_choose_0 rfl ?_
  refine ls_6_3 h dX2_choose_1 rfl ?_
  refine x_iconst (nI 1) h dX2_choose_2 (by decide) ?_
  refine is_6_5 h dX2_choose_3 rfl ?_
  exact loop (y + 1) 0 (by omega) (by omega)
theorem m2_sizeOf {n : Nat} {fi se la su : Nat → Int32} {po : Nat → Int64} {es : List (Nat × Nat)} (hes : gE n es fi se) (hm : es.length ≤ 8) {s : Nat} (hs : s < 2147483648) : C2_sizeOf [.int (nI s)] (nI n, nI es.length, fi, se, la, su, po) (fun r u' => u' = (nI n, nI es.length, fi, se, la, su, po) ∧ r = nI (gp_sel es s).length) := by
  refine Mi.start (by decide +kernel) rfl rfl (fun X a d h ret => ?_)
  have h : Ok X cX2_sizeOf RX2 (t2 d) 1 22 := h
  show JJ X (w2 a d (nI n, nI es.length, fi, se, la, su, po)) [some (.ref (a 0)), some (.int (nI s)), none, none] 0 []
  have loop : ∀ (k i : Nat), i ≤ es.length → es.length + 1 ≤ i + k → JJ X (w2 a d (nI n, nI es.length, fi, se, la, su, po)) [some (.ref (a 0)), some (.int (nI s)), some (.int (nI (gp_sel (es.take i) s).length)), some (.int (nI i))] 4 [] := by
    intro k
    induction k with
    | zero => intro i h1 h2; omega
    | succ k ih =>
      intro i h1 h2
      refine x_iload_n h dX2_sizeOf_4 rfl ?_
      refine x_aload_n h dX2_sizeOf_5 rfl ?_
      refine g2_mm h dX2_sizeOf_6 ?_
      refine y_icmp_ge 30 h dX2_sizeOf_9 (by decide) (by omega) (by omega) (fun c1 => ?_) (fun c1 => ?_)
      · have hi : i = es.length := by omega
        subst hi
        refine x_iload_n h dX2_sizeOf_30 rfl ?_
        exact ret _ _ _ _ dX2_sizeOf_31 rfl ⟨rfl, by rw [List.take_length]⟩
      · obtain ⟨e, he, -, -, -, -, htk⟩ := gE_at hes c1
        have hsn : (gp_sel (es.take (i + 1)) s).length = (gp_sel (es.take i) s).length + (if s / 2 ^ i % 2 = 1 then 1 else 0) := by
          rw [htk, gp_sel_snoc, gp_take_len c1, List.length_append]
          split <;> rfl
        refine x_aload_n h dX2_sizeOf_12 rfl ?_
        refine x_iload_n h dX2_sizeOf_13 rfl ?_
        refine x_iload_n h dX2_sizeOf_14 rfl ?_
        refine k2_in h dX2_sizeOf_15 (m2_in _ hs (by omega)) (by decide) (by decide) (Nat.le_of_ble_eq_true rfl) (fun r u' hp => ?_)
        obtain ⟨rfl, rfl⟩ := hp
        refine y_if_eq 24 h dX2_sizeOf_18 (by decide) (by omega) (fun c2 => ?_) (fun c2 => ?_)
        · rw [if_neg (by omega), Nat.add_zero] at hsn
          refine ic_4_3 h dX2_sizeOf_24 rfl ?_
          refine x_goto 4 h dX2_sizeOf_27 (by decide) ?_
          have hh := ih (i + 1) (by omega) (by omega)
          rw [hsn] at hh
          exact hh
        · rw [if_pos (by omega)] at hsn
          refine ic_4_2 h dX2_sizeOf_21 rfl ?_
          refine ic_4_3 h dX2_sizeOf_24 rfl ?_
          refine x_goto 4 h dX2_sizeOf_27 (by decide) ?_
          have hh := ih (i + 1) (by omega) (by omega)
          rw [hsn] at hh
          exact hh
  refine x_iconst (nI 0) h dX2_sizeOf_0 (by decide) ?_
  refine is_4_2 h dX2_sizeOf_1 rfl ?_
  refine x_iconst (nI 0) h dX2_sizeOf_2 (by decide) ?_
  refine is_4_3 h dX2_sizeOf_3 rfl ?_
  exact loop (es.length + 1) 0 (by omega) (by omega)
end
section
set_option maxRecDepth 100000
theorem m2_add {n : Nat} {es : List (Nat × Nat)} {u : S2} (hu : G2 n es u) (x y : Int32) : C2_add [.int x, .int y] u (fun r u' => ∃ es', gp_Radd n es x y r es' ∧ G2 n es' u') := by
  have hu0 := hu
  obtain ⟨fi, se, la, su, po, rfl, hes, hn, hn1, hm⟩ := hu0
  refine Mi.start (by decide +kernel) rfl rfl (fun X a d h ret => ?_)
  have h : Ok X cX2_add RX2 (t2 d) 1 21 := h
  show JJ X (w2 a d (nI n, nI es.length, fi, se, la, su, po)) [some (.ref (a 0)), some (.int x), some (.int y)] 0 []
  refine x_aload_n h dX2_add_0 rfl ?_
  refine g2_mm h dX2_add_1 ?_
  refine x_bipush (nI 8) h dX2_add_4 (by decide) ?_
  refine y_icmp_ne 12 h dX2_add_6 (by decide) (by omega) (by omega) (fun c0 => ?_) (fun c0 => ?_)
  · have c0' : es.length < 8 := by omega
    have bad : ¬ (gp_pt n x ∧ gp_pt n y) → JJ X (w2 a d (nI n, nI es.length, fi, se, la, su, po)) [some (.ref (a 0)), some (.int x), some (.int y)] 28 [] := by
      intro hb
      refine x_iconst (-1) h dX2_add_28 (by decide) ?_
      exact ret _ _ _ _ dX2_add_29 rfl ⟨es, Or.inr (Or.inl ⟨c0', hb, rfl, rfl⟩), hu⟩
    refine x_aload_n h dX2_add_12 rfl ?_
    refine x_iload_n h dX2_add_13 rfl ?_
    refine k2_isPoint h dX2_add_14 (m2_isPoint hn x) (by decide) (by decide) (Nat.le_of_ble_eq_true rfl) (fun r u' hp => ?_)
    obtain ⟨rfl, ⟨hx, rfl⟩ | ⟨hx, rfl⟩⟩ := hp
    · refine y_if_eq 28 h dX2_add_17 (by decide) (by omega) (fun q => absurd q (by decide)) (fun _ => ?_)
      refine x_aload_n h dX2_add_20 rfl ?_
      refine x_iload_n h dX2_add_21 rfl ?_
      refine k2_isPoint h dX2_add_22 (m2_isPoint hn y) (by decide) (by decide) (Nat.le_of_ble_eq_true rfl) (fun r u' hp => ?_)
      obtain ⟨rfl, ⟨hy, rfl⟩ | ⟨hy, rfl⟩⟩ := hp
      · refine y_if_ne 30 h dX2_add_25 (by decide) (by omega) (fun _ => ?_) (fun q => absurd q (by decide))
        obtain ⟨p, hp, rfl⟩ := hx
        obtain ⟨q, hq, rfl⟩ := hy
        refine x_aload_n h dX2_add_30 rfl ?_
        refine g2_fi h dX2_add_31 ?_
        refine x_aload_n h dX2_add_34 rfl ?_
        refine g2_mm h dX2_add_35 ?_
        refine x_iload_n h dX2_add_38 rfl ?_
        refine a2_fi h dX2_add_39 (by omega) ?_
        refine x_aload_n h dX2_add_40 rfl ?_
        refine g2_se h dX2_add_41 ?_
        refine x_aload_n h dX2_add_44 rfl ?_
        refine g2_mm h dX2_add_45 ?_
        refine x_iload_n h dX2_add_48 rfl ?_
        refine a2_se h dX2_add_49 (by omega) ?_
        refine x_aload_n h dX2_add_50 rfl ?_
        refine x_dup h dX2_add_51 rfl ?_
        refine g2_mm h dX2_add_52 ?_
        refine x_iconst (nI 1) h dX2_add_55 (by decide) ?_
        refine y_iadd h dX2_add_56 ?_
        refine p2_mm h dX2_add_57 ?_
        refine x_aload_n h dX2_add_60 rfl ?_
        refine g2_mm h dX2_add_61 ?_
        refine ret _ _ _ _ dX2_add_64 rfl ⟨es ++ [(p, q)], Or.inr (Or.inr ⟨c0', p, q, hp, hq, rfl, rfl, rfl, rfl⟩), ?_⟩
        refine ⟨_, _, la, su, po, ?_, gE_snoc hes hp hq, hn, hn1, by rw [List.length_append]; show es.length + 1 ≤ 8; omega⟩
        rw [List.length_append]; rfl
      · refine y_if_ne 30 h dX2_add_25 (by decide) (by omega) (fun q => absurd rfl q) (fun _ => ?_)
        exact bad (fun q => hy q.2)
    · refine y_if_eq 28 h dX2_add_17 (by decide) (by omega) (fun _ => ?_) (fun q => absurd rfl q)
      exact bad (fun q => hx q.1)
  · refine x_bipush (-2) h dX2_add_9 (by decide) ?_
    exact ret _ _ _ _ dX2_add_11 rfl ⟨es, Or.inl ⟨by omega, rfl, rfl⟩, hu⟩
theorem m2_drop {n : Nat} {es : List (Nat × Nat)} {u : S2} (hu : G2 n es u) (x : Int32) : C2_drop [.int x] u (fun r u' => ∃ es', gp_Rdrop es x r es' ∧ G2 n es' u') := by
  have hu0 := hu
  obtain ⟨fi, se, la, su, po, rfl, hes, hn, hn1, hm⟩ := hu0
  refine Mi.start (by decide +kernel) rfl rfl (fun X a d h ret => ?_)
  have h : Ok X cX2_drop RX2 (t2 d) 1 21 := h
  show JJ X (w2 a d (nI n, nI es.length, fi, se, la, su, po)) [some (.ref (a 0)), some (.int x), none] 0 []
  refine x_aload_n h dX2_drop_0 rfl ?_
  refine x_iload_n h dX2_drop_1 rfl ?_
  refine k2_isEdge h dX2_drop_2 (m2_isEdge hm x) (by decide) (by decide) (Nat.le_of_ble_eq_true rfl) (fun r u' hp => ?_)
  obtain ⟨rfl, ⟨hx, rfl⟩ | ⟨hx, rfl⟩⟩ := hp
  · refine y_if_ne 10 h dX2_drop_5 (by decide) (by omega) (fun _ => ?_) (fun q => absurd q (by decide))
    obtain ⟨i, hi, rfl⟩ := hx
    have loop : ∀ (k j : Nat), i ≤ j → j ≤ es.length - 1 → es.length ≤ j + k → JJ X (w2 a d (nI n, nI es.length, gp_mv fi i j, gp_mv se i j, la, su, po)) [some (.ref (a 0)), some (.int (nI i)), some (.int (nI j))] 12 [] := by
      intro k
      induction k with
      | zero => intro j h1 h2 h3; omega
      | succ k ih =>
        intro j h0 h1 h2
        refine x_iload_n h dX2_drop_12 rfl ?_
        refine x_aload_n h dX2_drop_13 rfl ?_
        refine g2_mm h dX2_drop_14 ?_
        refine x_iconst (nI 1) h dX2_drop_17 (by decide) ?_
        refine y_isub h dX2_drop_18 (by omega) ?_
        refine y_icmp_ge 56 h dX2_drop_19 (by decide) (by omega) (by omega) (fun c3 => ?_) (fun c3 => ?_)
        · have hj : j = es.length - 1 := by omega
          subst hj
          refine x_aload_n h dX2_drop_56 rfl ?_
          refine x_dup h dX2_drop_57 rfl ?_
          refine g2_mm h dX2_drop_58 ?_
          refine x_iconst (nI 1) h dX2_drop_61 (by decide) ?_
          refine y_isub h dX2_drop_62 (by omega) ?_
          refine p2_mm h dX2_drop_63 ?_
          refine x_aload_n h dX2_drop_66 rfl ?_
          refine g2_mm h dX2_drop_67 ?_
          refine ret _ _ _ _ dX2_drop_70 rfl ⟨es.eraseIdx i, Or.inl ⟨i, hi, rfl, rfl, rfl⟩, ?_⟩
          have hl : (es.eraseIdx i).length = es.length - 1 := List.length_eraseIdx_of_lt hi
          exact ⟨_, _, la, su, po, by rw [hl], gE_mv hes hi, hn, hn1, by omega⟩
        · refine x_aload_n h dX2_drop_22 rfl ?_
          refine g2_fi h dX2_drop_23 ?_
          refine x_iload_n h dX2_drop_26 rfl ?_
          refine x_aload_n h dX2_drop_27 rfl ?_
          refine g2_fi h dX2_drop_28 ?_
          refine x_iload_n h dX2_drop_31 rfl ?_
          refine x_iconst (nI 1) h dX2_drop_32 (by decide) ?_
          refine y_iadd h dX2_drop_33 ?_
          refine l2_fi h dX2_drop_34 (by omega) ?_
          rw [gp_mv_at]
          refine a2_fi h dX2_drop_35 (by omega) ?_
          rw [gp_mv_s fi h0]
          refine x_aload_n h dX2_drop_36 rfl ?_
          refine g2_se h dX2_drop_37 ?_
          refine x_iload_n h dX2_drop_40 rfl ?_
          refine x_aload_n h dX2_drop_41 rfl ?_
          refine g2_se h dX2_drop_42 ?_
          refine x_iload_n h dX2_drop_45 rfl ?_
          refine x_iconst (nI 1) h dX2_drop_46 (by decide) ?_
          refine y_iadd h dX2_drop_47 ?_
          refine l2_se h dX2_drop_48 (by omega) ?_
          rw [gp_mv_at]
          refine a2_se h dX2_drop_49 (by omega) ?_
          rw [gp_mv_s se h0]
          refine ic_3_2 h dX2_drop_50 rfl ?_
          refine x_goto 12 h dX2_drop_53 (by decide) ?_
          exact ih (j + 1) (by omega) (by omega) (by omega)
    refine x_iload_n h dX2_drop_10 rfl ?_
    refine is_3_2 h dX2_drop_11 rfl ?_
    have hh := loop es.length i (Nat.le_refl _) (by omega) (by omega)
    rw [gp_mv_0, gp_mv_0] at hh
    exact hh
  · refine y_if_ne 10 h dX2_drop_5 (by decide) (by omega) (fun q => absurd rfl q) (fun _ => ?_)
    refine x_iconst (-1) h dX2_drop_8 (by decide) ?_
    exact ret _ _ _ _ dX2_drop_9 rfl ⟨es, Or.inr ⟨hx, rfl, rfl⟩, hu⟩
theorem m2_merge {n : Nat} {es : List (Nat × Nat)} {u : S2} (hu : G2 n es u) (x : Int32) : C2_merge [.int x] u (fun r u' => ∃ es', gp_Rmerge es x r es' ∧ G2 n es' u') := by
  have hu0 := hu
  obtain ⟨fi, se, la, su, po, rfl, hes, hn, hn1, hm⟩ := hu0
  refine Mi.start (by decide +kernel) rfl rfl (fun X a d h ret => ?_)
  have h : Ok X cX2_merge RX2 (t2 d) 2 43 := h
  show JJ X (w2 a d (nI n, nI es.length, fi, se, la, su, po)) [some (.ref (a 0)), some (.int x), none, none, none] 0 []
  refine x_aload_n h dX2_merge_0 rfl ?_
  refine x_iload_n h dX2_merge_1 rfl ?_
  refine k2_isEdge h dX2_merge_2 (m2_isEdge hm x) (by decide) (by decide) (Nat.le_of_ble_eq_true rfl) (fun r u' hp => ?_)
  obtain ⟨rfl, ⟨hx, rfl⟩ | ⟨hx, rfl⟩⟩ := hp
  · refine y_if_ne 10 h dX2_merge_5 (by decide) (by omega) (fun _ => ?_) (fun q => absurd q (by decide))
    obtain ⟨i, hi, rfl⟩ := hx
    obtain ⟨e, he, hfe, hse, he1, he2, -⟩ := gE_at hes hi
    have hl : (es.eraseIdx i).length = es.length - 1 := List.length_eraseIdx_of_lt hi
    have loop : ∀ (k j : Nat) (fi se la su : Nat → Int32) (po : Nat → Int64), j ≤ es.length - 1 → es.length ≤ j + k → gE n (gp_rl e j (es.eraseIdx i)) fi se → JJ X (w2 a d (nI n, nI (es.eraseIdx i).length, fi, se, la, su, po)) [some (.ref (a 0)), some (.int (nI i)), some (.int (nI (min e.1 e.2))), some (.int (nI (max e.1 e.2))), some (.int (nI j))] 81 [] := by
      intro k
      induction k with
      | zero => intro j fi se la su po h1 h2; omega
      | succ k ih =>
        intro j fi se la su po h1 h2 hg
        refine x_iload h dX2_merge_81 rfl ?_
        refine x_aload_n h dX2_merge_83 rfl ?_
        refine g2_mm h dX2_merge_84 ?_
        refine y_icmp_ge 134 h dX2_merge_87 (by decide) (by omega) (by omega) (fun c3 => ?_) (fun c3 => ?_)
        · have hj : j = (es.eraseIdx i).length := by omega
          refine x_aload_n h dX2_merge_134 rfl ?_
          refine g2_mm h dX2_merge_135 ?_
          refine ret _ _ _ _ dX2_merge_138 rfl ⟨_, Or.inl ⟨i, e, he, rfl, by rw [hl], rfl⟩, ?_⟩
          rw [← gp_rl_all, ← hj]
          exact ⟨fi, se, la, su, po, by rw [gp_rl_len, hj], hg, hn, hn1, by rw [gp_rl_len]; omega⟩
        · obtain ⟨q, hq⟩ : ∃ q, (es.eraseIdx i)[j]? = some q := ⟨_, List.getElem?_eq_getElem c3⟩
          have hq2 := hg j _ (gp_rl_at e _ hq)
          rw [if_neg (by omega)] at hq2
          obtain ⟨hfj, hsj, hq1, hq2⟩ := hq2
          have t128 : ∀ (fi' se' : Nat → Int32), (∀ k, k ≠ j → fi' k = fi k) → (∀ k, k ≠ j → se' k = se k) → fi' j = nI (gp_mg e q).1 → se' j = nI (gp_mg e q).2 → JJ X (w2 a d (nI n, nI (es.eraseIdx i).length, fi', se', la, su, po)) [some (.ref (a 0)), some (.int (nI i)), some (.int (nI (min e.1 e.2))), some (.int (nI (max e.1 e.2))), some (.int (nI j))] 128 [] := by
            intro fi' se' a1 a2 a3 a4
            refine ic_5_4 h dX2_merge_128 rfl ?_
            refine x_goto 81 h dX2_merge_131 (by decide) ?_
            exact ih (j + 1) fi' se' la su po (by omega) (by omega) (gE_rl hg hq a1 a2 a3 a4)
          have t109 : ∀ (fi' : Nat → Int32), (∀ k, k ≠ j → fi' k = fi k) → fi' j = nI (gp_mg e q).1 → JJ X (w2 a d (nI n, nI (es.eraseIdx i).length, fi', se, la, su, po)) [some (.ref (a 0)), some (.int (nI i)), some (.int (nI (min e.1 e.2))), some (.int (nI (max e.1 e.2))), some (.int (nI j))] 109 [] := by
            intro fi' a1 a3
            refine x_aload_n h dX2_merge_109 rfl ?_
            refine g2_se h dX2_merge_110 ?_
            refine x_iload h dX2_merge_113 rfl ?_
            refine l2_se h dX2_merge_115 (by omega) ?_
            rw [hsj]
            refine x_iload_n h dX2_merge_116 rfl ?_
            refine y_icmp_ne 128 h dX2_merge_117 (by decide) (by omega) (by omega) (fun c5 => ?_) (fun c5 => ?_)
            · exact t128 fi' se a1 (fun _ _ => rfl) a3 (by rw [hsj, show (gp_mg e q).2 = q.2 from if_neg c5])
            · refine x_aload_n h dX2_merge_120 rfl ?_
              refine g2_se h dX2_merge_121 ?_
              refine x_iload h dX2_merge_124 rfl ?_
              refine x_iload_n h dX2_merge_126 rfl ?_
              refine a2_se h dX2_merge_127 (by omega) ?_
              exact t128 fi' _ a1 (fun k hk => pk_un hk) a3 (by rw [pk_us, show (gp_mg e q).2 = min e.1 e.2 from if_pos c5])
          refine x_aload_n h dX2_merge_90 rfl ?_
          refine g2_fi h dX2_merge_91 ?_
          refine x_iload h dX2_merge_94 rfl ?_
          refine l2_fi h dX2_merge_96 (by omega) ?_
          rw [hfj]
          refine x_iload_n h dX2_merge_97 rfl ?_
          refine y_icmp_ne 109 h dX2_merge_98 (by decide) (by omega) (by omega) (fun c4 => ?_) (fun c4 => ?_)
          · exact t109 fi (fun _ _ => rfl) (by rw [hfj, show (gp_mg e q).1 = q.1 from if_neg c4])
          · refine x_aload_n h dX2_merge_101 rfl ?_
            refine g2_fi h dX2_merge_102 ?_
            refine x_iload h dX2_merge_105 rfl ?_
            refine x_iload_n h dX2_merge_107 rfl ?_
            refine a2_fi h dX2_merge_108 (by omega) ?_
            exact t109 _ (fun k hk => pk_un hk) (by rw [pk_us, show (gp_mg e q).1 = min e.1 e.2 from if_pos c4])
    have t71 : JJ X (w2 a d (nI n, nI es.length, fi, se, la, su, po)) [some (.ref (a 0)), some (.int (nI i)), some (.int (nI (min e.1 e.2))), none, none] 71 [.int (nI (max e.1 e.2))] := by
      refine is_5_3 h dX2_merge_71 rfl ?_
      refine x_aload_n h dX2_merge_72 rfl ?_
      refine x_iload_n h dX2_merge_73 rfl ?_
      refine k2_drop h dX2_merge_74 (m2_drop hu (nI i)) (by decide) (by decide) (Nat.le_of_ble_eq_true rfl) (fun r u' hp => ?_)
      obtain ⟨es', ⟨i', hi', hii, hr, rfl⟩ | ⟨hb, -⟩, hG⟩ := hp
      · have : i = i' := (n_eq (by omega) (by omega)).mp hii
        subst this
        obtain ⟨fi1, se1, la1, su1, po1, rfl, hg1, -⟩ := hG
        refine x_pop h dX2_merge_77 rfl ?_
        refine x_iconst (nI 0) h dX2_merge_78 (by decide) ?_
        refine is_5_4 h dX2_merge_79 rfl ?_
        exact loop es.length 0 fi1 se1 la1 su1 po1 (by omega) (by omega) hg1
      · exact absurd ⟨i, hi, rfl⟩ hb
    have t40 : JJ X (w2 a d (nI n, nI es.length, fi, se, la, su, po)) [some (.ref (a 0)), some (.int (nI i)), none, none, none] 40 [.int (nI (min e.1 e.2))] := by
      refine is_5_2 h dX2_merge_40 rfl ?_
      refine x_aload_n h dX2_merge_41 rfl ?_
      refine g2_fi h dX2_merge_42 ?_
      refine x_iload_n h dX2_merge_45 rfl ?_
      refine l2_fi h dX2_merge_46 (by omega) ?_
      rw [hfe]
      refine x_aload_n h dX2_merge_47 rfl ?_
      refine g2_se h dX2_merge_48 ?_
      refine x_iload_n h dX2_merge_51 rfl ?_
      refine l2_se h dX2_merge_52 (by omega) ?_
      rw [hse]
      refine y_icmp_ge 65 h dX2_merge_53 (by decide) (by omega) (by omega) (fun c6 => ?_) (fun c6 => ?_)
      · refine x_aload_n h dX2_merge_65 rfl ?_
        refine g2_fi h dX2_merge_66 ?_
        refine x_iload_n h dX2_merge_69 rfl ?_
        refine l2_fi h dX2_merge_70 (by omega) ?_
        rw [hfe]
        refine x_top (v := nI (max e.1 e.2)) (by congr 1; omega) ?_
        exact t71
      · refine x_aload_n h dX2_merge_56 rfl ?_
        refine g2_se h dX2_merge_57 ?_
        refine x_iload_n h dX2_merge_60 rfl ?_
        refine l2_se h dX2_merge_61 (by omega) ?_
        rw [hse]
        refine x_top (v := nI (max e.1 e.2)) (by congr 1; omega) ?_
        refine x_goto 71 h dX2_merge_62 (by decide) ?_
        exact t71
    refine x_aload_n h dX2_merge_10 rfl ?_
    refine g2_fi h dX2_merge_11 ?_
    refine x_iload_n h dX2_merge_14 rfl ?_
    refine l2_fi h dX2_merge_15 (by omega) ?_
    rw [hfe]
    refine x_aload_n h dX2_merge_16 rfl ?_
    refine g2_se h dX2_merge_17 ?_
    refine x_iload_n h dX2_merge_20 rfl ?_
    refine l2_se h dX2_merge_21 (by omega) ?_
    rw [hse]
    refine y_icmp_ge 34 h dX2_merge_22 (by decide) (by omega) (by omega) (fun c7 => ?_) (fun c7 => ?_)
    · refine x_aload_n h dX2_merge_34 rfl ?_
      refine g2_se h dX2_merge_35 ?_
      refine x_iload_n h dX2_merge_38 rfl ?_
      refine l2_se h dX2_merge_39 (by omega) ?_
      rw [hse]
      refine x_top (v := nI (min e.1 e.2)) (by congr 1; omega) ?_
      exact t40
    · refine x_aload_n h dX2_merge_25 rfl ?_
      refine g2_fi h dX2_merge_26 ?_
      refine x_iload_n h dX2_merge_29 rfl ?_
      refine l2_fi h dX2_merge_30 (by omega) ?_
      rw [hfe]
      refine x_top (v := nI (min e.1 e.2)) (by congr 1; omega) ?_
      refine x_goto 40 h dX2_merge_31 (by decide) ?_
      exact t40
  · refine y_if_ne 10 h dX2_merge_5 (by decide) (by omega) (fun q => absurd rfl q) (fun _ => ?_)
    refine x_iconst (-1) h dX2_merge_8 (by decide) ?_
    exact ret _ _ _ _ dX2_merge_9 rfl ⟨es, Or.inr ⟨hx, rfl, rfl⟩, hu⟩
end
section
set_option maxRecDepth 100000
theorem gp_rd_snoc (l : Nat → Nat) (A : List (Nat × Nat)) (e : Nat × Nat) : gp_rd l (A ++ [e]) = gp_sp (gp_rd l A) e := by
  unfold gp_rd
  rw [List.foldl_append]; rfl
theorem m2_spread {n : Nat} {fi se la su : Nat → Int32} {po : Nat → Int64} {es : List (Nat × Nat)} (hn : n ≤ 6) (hes : gE n es fi se) (hm : es.length ≤ 8) {s : Nat} (hs : s < 2147483648) {l : Nat → Nat} (hl : ∀ p, p < n → la p = nI (l p) ∧ l p < 8) : C2_spread [.int (nI s)] (nI n, nI es.length, fi, se, la, su, po) (fun u' => ∃ la' : Nat → Int32, u' = (nI n, nI es.length, fi, se, la', su, po) ∧ ∀ p, p < n → la' p = nI (gp_rd l (gp_sel es s) p) ∧ gp_rd l (gp_sel es s) p < 8) := by
  refine Mv.start (by decide +kernel) rfl rfl (fun X a d h ret => ?_)
  have h : Ok X cX2_spread RX2 (t2 d) 1 22 := h
  show JJ X (w2 a d (nI n, nI es.length, fi, se, la, su, po)) [some (.ref (a 0)), some (.int (nI s)), none, none] 0 []
  have loop : ∀ (k i : Nat) (la : Nat → Int32) (o : Option Value), i ≤ es.length → es.length + 1 ≤ i + k → (∀ p, p < n → la p = nI (gp_rd l (gp_sel (es.take i) s) p) ∧ gp_rd l (gp_sel (es.take i) s) p < 8) → JJ X (w2 a d (nI n, nI es.length, fi, se, la, su, po)) [some (.ref (a 0)), some (.int (nI s)), some (.int (nI i)), o] 2 [] := by
    intro k
    induction k with
    | zero => intro i la o h1 h2; omega
    | succ k ih =>
      intro i la o h1 h2 hla
      refine x_iload_n h dX2_spread_2 rfl ?_
      refine x_aload_n h dX2_spread_3 rfl ?_
      refine g2_mm h dX2_spread_4 ?_
      refine y_icmp_ge 100 h dX2_spread_7 (by decide) (by omega) (by omega) (fun c1 => ?_) (fun c1 => ?_)
      · have hi : i = es.length := by omega
        subst hi
        rw [List.take_length] at hla
        exact ret _ _ _ dX2_spread_100 ⟨la, rfl, hla⟩
      · obtain ⟨e, he, hfe, hse, he1, he2, htk⟩ := gE_at hes c1
        have hsn : gp_sel (es.take (i + 1)) s = gp_sel (es.take i) s ++ (if s / 2 ^ i % 2 = 1 then [e] else []) := by
          rw [htk, gp_sel_snoc, gp_take_len c1]
        refine x_aload_n h dX2_spread_10 rfl ?_
        refine x_iload_n h dX2_spread_11 rfl ?_
        refine x_iload_n h dX2_spread_12 rfl ?_
        refine k2_in h dX2_spread_13 (m2_in _ hs (by omega)) (by decide) (by decide) (Nat.le_of_ble_eq_true rfl) (fun r u' hp => ?_)
        obtain ⟨rfl, rfl⟩ := hp
        have t94 : ∀ (la' : Nat → Int32) (o : Option Value), (∀ p, p < n → la' p = nI (gp_rd l (gp_sel (es.take (i + 1)) s) p) ∧ gp_rd l (gp_sel (es.take (i + 1)) s) p < 8) → JJ X (w2 a d (nI n, nI es.length, fi, se, la', su, po)) [some (.ref (a 0)), some (.int (nI s)), some (.int (nI i)), o] 94 [] := by
          intro la' o hla'
          refine ic_4_2 h dX2_spread_94 rfl ?_
          refine x_goto 2 h dX2_spread_97 (by decide) ?_
          exact ih (i + 1) la' o (by omega) (by omega) hla'
        refine y_if_eq 94 h dX2_spread_16 (by decide) (by omega) (fun c2 => ?_) (fun c2 => ?_)
        · rw [if_neg (by omega), List.append_nil] at hsn
          rw [hsn] at t94
          exact t94 la o hla
        · rw [if_pos (by omega)] at hsn
          rw [hsn, gp_rd_snoc] at t94
          generalize gp_rd l (gp_sel (es.take i) s) = g at hla t94
          have hu := hla e.1 he1
          have hv := hla e.2 he2
          have t69 : JJ X (w2 a d (nI n, nI es.length, fi, se, la, su, po)) [some (.ref (a 0)), some (.int (nI s)), some (.int (nI i)), o] 69 [.int (nI (min (g e.1) (g e.2)))] := by
            refine is_4_3 h dX2_spread_69 rfl ?_
            refine x_aload_n h dX2_spread_70 rfl ?_
            refine g2_la h dX2_spread_71 ?_
            refine x_aload_n h dX2_spread_74 rfl ?_
            refine g2_fi h dX2_spread_75 ?_
            refine x_iload_n h dX2_spread_78 rfl ?_
            refine l2_fi h dX2_spread_79 (by omega) ?_
            rw [hfe]
            refine x_iload_n h dX2_spread_80 rfl ?_
            refine a2_la h dX2_spread_81 (by omega) ?_
            refine x_aload_n h dX2_spread_82 rfl ?_
            refine g2_la h dX2_spread_83 ?_
            refine x_aload_n h dX2_spread_86 rfl ?_
            refine g2_se h dX2_spread_87 ?_
            refine x_iload_n h dX2_spread_90 rfl ?_
            refine l2_se h dX2_spread_91 (by omega) ?_
            rw [hse]
            refine x_iload_n h dX2_spread_92 rfl ?_
            refine a2_la h dX2_spread_93 (by omega) ?_
            refine t94 _ _ (fun p hp => ?_)
            have hp2 := hla p hp
            show (if p = e.2 then _ else if p = e.1 then _ else la p) = nI (if p = e.1 ∨ p = e.2 then min (g e.1) (g e.2) else g p) ∧ (if p = e.1 ∨ p = e.2 then min (g e.1) (g e.2) else g p) < 8
            by_cases q2 : p = e.2
            · rw [if_pos q2, if_pos (Or.inr q2)]; exact ⟨rfl, by omega⟩
            · by_cases q1 : p = e.1
              · rw [if_neg q2, if_pos q1, if_pos (Or.inl q1)]; exact ⟨rfl, by omega⟩
              · rw [if_neg q2, if_neg q1, if_neg (fun r => r.elim q1 q2)]; exact hp2
          refine x_aload_n h dX2_spread_19 rfl ?_
          refine g2_la h dX2_spread_20 ?_
          refine x_aload_n h dX2_spread_23 rfl ?_
          refine g2_fi h dX2_spread_24 ?_
          refine x_iload_n h dX2_spread_27 rfl ?_
          refine l2_fi h dX2_spread_28 (by omega) ?_
          rw [hfe]
          refine l2_la h dX2_spread_29 (by omega) ?_
          rw [hu.1]
          refine x_aload_n h dX2_spread_30 rfl ?_
          refine g2_la h dX2_spread_31 ?_
          refine x_aload_n h dX2_spread_34 rfl ?_
          refine g2_se h dX2_spread_35 ?_
          refine x_iload_n h dX2_spread_38 rfl ?_
          refine l2_se h dX2_spread_39 (by omega) ?_
          rw [hse]
          refine l2_la h dX2_spread_40 (by omega) ?_
          rw [hv.1]
          refine y_icmp_ge 58 h dX2_spread_41 (by decide) (by omega) (by omega) (fun c3 => ?_) (fun c3 => ?_)
          · refine x_aload_n h dX2_spread_58 rfl ?_
            refine g2_la h dX2_spread_59 ?_
            refine x_aload_n h dX2_spread_62 rfl ?_
            refine g2_se h dX2_spread_63 ?_
            refine x_iload_n h dX2_spread_66 rfl ?_
            refine l2_se h dX2_spread_67 (by omega) ?_
            rw [hse]
            refine l2_la h dX2_spread_68 (by omega) ?_
            rw [hv.1]
            refine x_top (v := nI (min (g e.1) (g e.2))) (by congr 1; omega) ?_
            exact t69
          · refine x_aload_n h dX2_spread_44 rfl ?_
            refine g2_la h dX2_spread_45 ?_
            refine x_aload_n h dX2_spread_48 rfl ?_
            refine g2_fi h dX2_spread_49 ?_
            refine x_iload_n h dX2_spread_52 rfl ?_
            refine l2_fi h dX2_spread_53 (by omega) ?_
            rw [hfe]
            refine l2_la h dX2_spread_54 (by omega) ?_
            rw [hu.1]
            refine x_top (v := nI (min (g e.1) (g e.2))) (by congr 1; omega) ?_
            refine x_goto 69 h dX2_spread_55 (by decide) ?_
            exact t69
  refine x_iconst (nI 0) h dX2_spread_0 (by decide) ?_
  refine is_4_2 h dX2_spread_1 rfl ?_
  exact loop (es.length + 1) 0 la none (by omega) (by omega) hl
theorem m2_partsOf {n : Nat} {fi se la su : Nat → Int32} {po : Nat → Int64} {es : List (Nat × Nat)} (hn : n ≤ 6) (hes : gE n es fi se) (hm : es.length ≤ 8) {s : Nat} (hs : s < 2147483648) : C2_partsOf [.int (nI s)] (nI n, nI es.length, fi, se, la, su, po) (fun r u' => ∃ la' : Nat → Int32, u' = (nI n, nI es.length, fi, se, la', su, po) ∧ r = nI (gp_cc (gp_dr gp_id (gp_sel es s)) n)) := by
  refine Mi.start (by decide +kernel) rfl rfl (fun X a d h ret => ?_)
  have h : Ok X cX2_partsOf RX2 (t2 d) 2 45 := h
  show JJ X (w2 a d (nI n, nI es.length, fi, se, la, su, po)) [some (.ref (a 0)), some (.int (nI s)), none, none] 0 []
  have hA := gp_es_sel (gE_es hes) s
  have hspr := gp_spread hn hA
  have hcc := gp_cc_congr (f := gp_it 6 (gp_sel es s) gp_id) (g := gp_dr gp_id (gp_sel es s)) (n := n) (fun p hp => by rw [hspr p hp])
  have hlt : ∀ k p, p < n → gp_it k (gp_sel es s) gp_id p < 8 := fun k p hp => by have := gp_it_lt hA k p hp; omega
  have loop3 : ∀ (k i : Nat) (la : Nat → Int32), i ≤ n → n + 1 ≤ i + k → (∀ p, p < n → la p = nI (gp_it 6 (gp_sel es s) gp_id p)) → JJ X (w2 a d (nI n, nI es.length, fi, se, la, su, po)) [some (.ref (a 0)), some (.int (nI s)), some (.int (nI (gp_cc (gp_it 6 (gp_sel es s) gp_id) i))), some (.int (nI i))] 46 [] := by
    intro k
    induction k with
    | zero => intro i la h1 h2; omega
    | succ k ih =>
      intro i la h1 h2 hla
      refine x_iload_n h dX2_partsOf_46 rfl ?_
      refine x_aload_n h dX2_partsOf_47 rfl ?_
      refine g2_n h dX2_partsOf_48 ?_
      refine y_icmp_ge 73 h dX2_partsOf_51 (by decide) (by omega) (by omega) (fun c1 => ?_) (fun c1 => ?_)
      · have hi : i = n := by omega
        subst hi
        refine x_iload_n h dX2_partsOf_73 rfl ?_
        exact ret _ _ _ _ dX2_partsOf_74 rfl ⟨la, rfl, by rw [hcc]⟩
      · have hb := hlt 6 i c1
        refine x_aload_n h dX2_partsOf_54 rfl ?_
        refine g2_la h dX2_partsOf_55 ?_
        refine x_iload_n h dX2_partsOf_58 rfl ?_
        refine l2_la h dX2_partsOf_59 (by omega) ?_
        rw [hla i c1]
        refine x_iload_n h dX2_partsOf_60 rfl ?_
        refine y_icmp_ne 67 h dX2_partsOf_61 (by decide) (by omega) (by omega) (fun c2 => ?_) (fun c2 => ?_)
        · refine ic_4_3 h dX2_partsOf_67 rfl ?_
          refine x_goto 46 h dX2_partsOf_70 (by decide) ?_
          have hh := ih (i + 1) la (by omega) (by omega) hla
          rw [show gp_cc (gp_it 6 (gp_sel es s) gp_id) (i + 1) = gp_cc (gp_it 6 (gp_sel es s) gp_id) i by simp only [gp_cc]; rw [if_neg c2, Nat.add_zero]] at hh
          exact hh
        · refine ic_4_2 h dX2_partsOf_64 rfl ?_
          refine ic_4_3 h dX2_partsOf_67 rfl ?_
          refine x_goto 46 h dX2_partsOf_70 (by decide) ?_
          have hh := ih (i + 1) la (by omega) (by omega) hla
          rw [show gp_cc (gp_it 6 (gp_sel es s) gp_id) (i + 1) = gp_cc (gp_it 6 (gp_sel es s) gp_id) i + 1 by simp only [gp_cc]; rw [if_pos c2]] at hh
          exact hh
  have loop2 : ∀ (k i : Nat) (la : Nat → Int32), i ≤ 6 → 7 ≤ i + k → (∀ p, p < n → la p = nI (gp_it i (gp_sel es s) gp_id p)) → JJ X (w2 a d (nI n, nI es.length, fi, se, la, su, po)) [some (.ref (a 0)), some (.int (nI s)), some (.int (nI i)), none] 25 [] := by
    intro k
    induction k with
    | zero => intro i la h1 h2; omega
    | succ k ih =>
      intro i la h1 h2 hla
      refine x_iload_n h dX2_partsOf_25 rfl ?_
      refine x_bipush (nI 6) h dX2_partsOf_26 (by decide) ?_
      refine y_icmp_ge 42 h dX2_partsOf_28 (by decide) (by omega) (by omega) (fun c1 => ?_) (fun c1 => ?_)
      · have hi : i = 6 := by omega
        subst hi
        refine x_iconst (nI 0) h dX2_partsOf_42 (by decide) ?_
        refine is_4_2 h dX2_partsOf_43 rfl ?_
        refine x_iconst (nI 0) h dX2_partsOf_44 (by decide) ?_
        refine is_4_3 h dX2_partsOf_45 rfl ?_
        exact loop3 (n + 1) 0 la (by omega) (by omega) hla
      · refine x_aload_n h dX2_partsOf_31 rfl ?_
        refine x_iload_n h dX2_partsOf_32 rfl ?_
        refine k2_spread h dX2_partsOf_33 (m2_spread hn hes hm hs (fun p hp => ⟨hla p hp, hlt i p hp⟩)) (by decide) (by decide) (Nat.le_of_ble_eq_true rfl) (fun u' hp => ?_)
        obtain ⟨la', rfl, hla'⟩ := hp
        refine ic_4_2 h dX2_partsOf_36 rfl ?_
        refine x_goto 25 h dX2_partsOf_39 (by decide) ?_
        exact ih (i + 1) la' (by omega) (by omega) (fun p hp => (hla' p hp).1)
  have loop1 : ∀ (k i : Nat) (la : Nat → Int32), i ≤ n → n + 1 ≤ i + k → (∀ p, p < i → la p = nI p) → JJ X (w2 a d (nI n, nI es.length, fi, se, la, su, po)) [some (.ref (a 0)), some (.int (nI s)), some (.int (nI i)), none] 2 [] := by
    intro k
    induction k with
    | zero => intro i la h1 h2; omega
    | succ k ih =>
      intro i la h1 h2 hla
      refine x_iload_n h dX2_partsOf_2 rfl ?_
      refine x_aload_n h dX2_partsOf_3 rfl ?_
      refine g2_n h dX2_partsOf_4 ?_
      refine y_icmp_ge 23 h dX2_partsOf_7 (by decide) (by omega) (by omega) (fun c1 => ?_) (fun c1 => ?_)
      · have hi : i = n := by omega
        subst hi
        refine x_iconst (nI 0) h dX2_partsOf_23 (by decide) ?_
        refine is_4_2 h dX2_partsOf_24 rfl ?_
        exact loop2 7 0 la (by omega) (by omega) hla
      · refine x_aload_n h dX2_partsOf_10 rfl ?_
        refine g2_la h dX2_partsOf_11 ?_
        refine x_iload_n h dX2_partsOf_14 rfl ?_
        refine x_iload_n h dX2_partsOf_15 rfl ?_
        refine a2_la h dX2_partsOf_16 (by omega) ?_
        refine ic_4_2 h dX2_partsOf_17 rfl ?_
        refine x_goto 2 h dX2_partsOf_20 (by decide) ?_
        refine ih (i + 1) _ (by omega) (by omega) (fun p hp => ?_)
        by_cases q : p = i
        · rw [q]; exact pk_us
        · rw [pk_un q]; exact hla p (by omega)
  refine x_iconst (nI 0) h dX2_partsOf_0 (by decide) ?_
  refine is_4_2 h dX2_partsOf_1 rfl ?_
  exact loop1 (n + 1) 0 la (by omega) (by omega) (fun p hp => by omega)
theorem m2_rank {n : Nat} {fi se la su : Nat → Int32} {po : Nat → Int64} {es : List (Nat × Nat)} (hn : n ≤ 6) (hes : gE n es fi se) (hm : es.length ≤ 8) {s : Nat} (hs : s < 2147483648) : C2_rank [.int (nI s)] (nI n, nI es.length, fi, se, la, su, po) (fun r u' => ∃ la' : Nat → Int32, u' = (nI n, nI es.length, fi, se, la', su, po) ∧ r = nI (gp_rk (gp_sel es s) gp_id)) := by
  have hr := gp_rank (gp_es_sel (gE_es hes) s)
  refine Mi.start (by decide +kernel) rfl rfl (fun X a d h ret => ?_)
  have h : Ok X cX2_rank RX2 (t2 d) 3 68 := h
  show JJ X (w2 a d (nI n, nI es.length, fi, se, la, su, po)) [some (.ref (a 0)), some (.int (nI s))] 0 []
  refine x_aload_n h dX2_rank_0 rfl ?_
  refine g2_n h dX2_rank_1 ?_
  refine x_aload_n h dX2_rank_4 rfl ?_
  refine x_iload_n h dX2_rank_5 rfl ?_
  refine k2_partsOf h dX2_rank_6 (m2_partsOf hn hes hm hs) (by decide) (by decide) (Nat.le_of_ble_eq_true rfl) (fun r u' hp => ?_)
  obtain ⟨la', rfl, rfl⟩ := hp
  refine y_isub h dX2_rank_9 (by omega) ?_
  exact ret _ _ _ _ dX2_rank_10 rfl ⟨la', rfl, by congr 1; omega⟩
theorem m2_parts {n : Nat} {es : List (Nat × Nat)} {u : S2} (hu : G2 n es u) : C2_parts [] u (fun r u' => G2 n es u' ∧ r = nI (gp_cc (gp_dr gp_id es) n)) := by
  obtain ⟨fi, se, la, su, po, rfl, hes, hn, hn1, hm⟩ := hu
  have hp8 := gp_pow8 hm
  refine Mi.start (by decide +kernel) rfl rfl (fun X a d h ret => ?_)
  have h : Ok X cX2_parts RX2 (t2 d) 3 68 := h
  show JJ X (w2 a d (nI n, nI es.length, fi, se, la, su, po)) [some (.ref (a 0)), none] 0 []
  refine x_aload_n h dX2_parts_0 rfl ?_
  refine k2_all h dX2_parts_1 (m2_all hm) (by decide) (by decide) (Nat.le_of_ble_eq_true rfl) (fun r u' hp => ?_)
  obtain ⟨rfl, rfl⟩ := hp
  refine is_2_1 h dX2_parts_4 rfl ?_
  refine x_aload_n h dX2_parts_5 rfl ?_
  refine x_iload_n h dX2_parts_6 rfl ?_
  refine k2_partsOf h dX2_parts_7 (m2_partsOf hn hes hm (by omega)) (by decide) (by decide) (Nat.le_of_ble_eq_true rfl) (fun r u' hp => ?_)
  obtain ⟨la', rfl, rfl⟩ := hp
  exact ret _ _ _ _ dX2_parts_10 rfl ⟨⟨fi, se, la', su, po, rfl, hes, hn, hn1, hm⟩, by rw [gp_sel_all]⟩
theorem m2_count {n : Nat} {es : List (Nat × Nat)} {u : S2} (hu : G2 n es u) {f l : Nat} (hf : f < 2) (hl : l < 2) : C2_count [.int (nI f), .int (nI l)] u (fun r u' => G2 n es u' ∧ r = nI (gp_sc (2 ^ es.length) (fun a => (f ≠ 0 → gp_rk (gp_sel es a) gp_id = gp_rk es gp_id) ∧ (l ≠ 0 → (gp_sel es a).length = gp_rk (gp_sel es a) gp_id)))) := by
  obtain ⟨fi, se, la, su, po, rfl, hes, hn, hn1, hm⟩ := hu
  have hp8 := gp_pow8 hm
  have hrl := gp_rk_len es gp_id
  refine Mi.start (by decide +kernel) rfl rfl (fun X a d h ret => ?_)
  have h : Ok X cX2_count RX2 (t2 d) 4 89 := h
  show JJ X (w2 a d (nI n, nI es.length, fi, se, la, su, po)) [some (.ref (a 0)), some (.int (nI f)), some (.int (nI l)), none, none, none, none, none] 0 []
  generalize hP : (fun a => (f ≠ 0 → gp_rk (gp_sel es a) gp_id = gp_rk es gp_id) ∧ (l ≠ 0 → (gp_sel es a).length = gp_rk (gp_sel es a) gp_id)) = P at ret
  have loop : ∀ (k i : Nat) (la : Nat → Int32) (o : Option Value), i ≤ 2 ^ es.length → 2 ^ es.length + 1 ≤ i + k → JJ X (w2 a d (nI n, nI es.length, fi, se, la, su, po)) [some (.ref (a 0)), some (.int (nI f)), some (.int (nI l)), some (.int (nI (2 ^ es.length - 1))), some (.int (nI (gp_rk es gp_id))), some (.int (nI (gp_sc i P))), some (.int (nI i)), o] 18 [] := by
    intro k
    induction k with
    | zero => intro i la o h1 h2; omega
    | succ k ih =>
      intro i la o h1 h2
      refine x_iload h dX2_count_18 rfl ?_
      refine x_iload_n h dX2_count_20 rfl ?_
      refine y_icmp_gt 67 h dX2_count_21 (by decide) (by omega) (by omega) (fun c1 => ?_) (fun c1 => ?_)
      · have hi : i = 2 ^ es.length := by omega
        refine x_iload h dX2_count_67 rfl ?_
        exact ret _ _ _ _ dX2_count_69 rfl ⟨⟨fi, se, la, su, po, rfl, hes, hn, hn1, hm⟩, by rw [hi]⟩
      · have hri := Nat.le_trans (gp_rk_len (gp_sel es i) gp_id) (gp_sel_len i)
        have hli := gp_sel_len (L := es) i
        refine x_aload_n h dX2_count_24 rfl ?_
        refine x_iload h dX2_count_25 rfl ?_
        refine k2_rank h dX2_count_27 (m2_rank hn hes hm (by omega)) (by decide) (by decide) (Nat.le_of_ble_eq_true rfl) (fun r u' hp => ?_)
        obtain ⟨la', rfl, rfl⟩ := hp
        refine is_8_7 h dX2_count_30 rfl ?_
        have t61 : ∀ c : Nat, c = gp_sc (i + 1) P → JJ X (w2 a d (nI n, nI es.length, fi, se, la', su, po)) [some (.ref (a 0)), some (.int (nI f)), some (.int (nI l)), some (.int (nI (2 ^ es.length - 1))), some (.int (nI (gp_rk es gp_id))), some (.int (nI c)), some (.int (nI i)), some (.int (nI (gp_rk (gp_sel es i) gp_id)))] 61 [] := by
          intro c hc
          rw [hc]
          refine ic_8_6 h dX2_count_61 rfl ?_
          refine x_goto 18 h dX2_count_64 (by decide) ?_
          exact ih (i + 1) la' _ (by omega) (by omega)
        have no : ¬ P i → JJ X (w2 a d (nI n, nI es.length, fi, se, la', su, po)) [some (.ref (a 0)), some (.int (nI f)), some (.int (nI l)), some (.int (nI (2 ^ es.length - 1))), some (.int (nI (gp_rk es gp_id))), some (.int (nI (gp_sc i P))), some (.int (nI i)), some (.int (nI (gp_rk (gp_sel es i) gp_id)))] 61 [] := fun hq => t61 _ (gp_sc_f hq).symm
        have yes : P i → JJ X (w2 a d (nI n, nI es.length, fi, se, la', su, po)) [some (.ref (a 0)), some (.int (nI f)), some (.int (nI l)), some (.int (nI (2 ^ es.length - 1))), some (.int (nI (gp_rk es gp_id))), some (.int (nI (gp_sc i P))), some (.int (nI i)), some (.int (nI (gp_rk (gp_sel es i) gp_id)))] 58 [] := by
          intro hq
          refine ic_8_5 h dX2_count_58 rfl ?_
          exact t61 _ (gp_sc_t hq).symm
        have t43 : (f ≠ 0 → gp_rk (gp_sel es i) gp_id = gp_rk es gp_id) → JJ X (w2 a d (nI n, nI es.length, fi, se, la', su, po)) [some (.ref (a 0)), some (.int (nI f)), some (.int (nI l)), some (.int (nI (2 ^ es.length - 1))), some (.int (nI (gp_rk es gp_id))), some (.int (nI (gp_sc i P))), some (.int (nI i)), some (.int (nI (gp_rk (gp_sel es i) gp_id)))] 43 [] := by
          intro hq
          refine x_iload_n h dX2_count_43 rfl ?_
          refine y_if_eq 58 h dX2_count_44 (by decide) (by omega) (fun c3 => ?_) (fun c3 => ?_)
          · exact yes (by rw [← hP]; exact ⟨hq, fun r => absurd c3 r⟩)
          · refine x_aload_n h dX2_count_47 rfl ?_
            refine x_iload h dX2_count_48 rfl ?_
            refine k2_sizeOf h dX2_count_50 (m2_sizeOf hes hm (by omega)) (by decide) (by decide) (Nat.le_of_ble_eq_true rfl) (fun r u' hp => ?_)
            obtain ⟨rfl, rfl⟩ := hp
            refine x_iload h dX2_count_53 rfl ?_
            refine y_icmp_ne 61 h dX2_count_55 (by decide) (by omega) (by omega) (fun c4 => ?_) (fun c4 => ?_)
            · exact no (by rw [← hP]; exact fun r => c4 (r.2 c3))
            · exact yes (by rw [← hP]; exact ⟨hq, fun _ => c4⟩)
        refine x_iload_n h dX2_count_32 rfl ?_
        refine y_if_eq 43 h dX2_count_33 (by decide) (by omega) (fun c2 => ?_) (fun c2 => ?_)
        · exact t43 (fun r => absurd c2 r)
        · refine x_iload h dX2_count_36 rfl ?_
          refine x_iload h dX2_count_38 rfl ?_
          refine y_icmp_ne 61 h dX2_count_40 (by decide) (by omega) (by omega) (fun c3 => ?_) (fun c3 => ?_)
          · exact no (by rw [← hP]; exact fun r => c3 (r.1 c2))
          · exact t43 (fun _ => c3)
  refine x_aload_n h dX2_count_0 rfl ?_
  refine k2_all h dX2_count_1 (m2_all hm) (by decide) (by decide) (Nat.le_of_ble_eq_true rfl) (fun r u' hp => ?_)
  obtain ⟨rfl, rfl⟩ := hp
  refine is_8_3 h dX2_count_4 rfl ?_
  refine x_aload_n h dX2_count_5 rfl ?_
  refine x_iload_n h dX2_count_6 rfl ?_
  refine k2_rank h dX2_count_7 (m2_rank hn hes hm (by omega)) (by decide) (by decide) (Nat.le_of_ble_eq_true rfl) (fun r u' hp => ?_)
  obtain ⟨la', rfl, rfl⟩ := hp
  rw [gp_sel_all]
  refine is_8_4 h dX2_count_10 rfl ?_
  refine x_iconst (nI 0) h dX2_count_12 (by decide) ?_
  refine is_8_5 h dX2_count_13 rfl ?_
  refine x_iconst (nI 0) h dX2_count_15 (by decide) ?_
  refine is_8_6 h dX2_count_16 rfl ?_
  exact loop (2 ^ es.length + 1) 0 la' none (by omega) (by omega)
theorem gp_cntI (es : List (Nat × Nat)) {f l : Nat} (full lean : Bool) (hf : f ≠ 0 ↔ full = true) (hl : l ≠ 0 ↔ lean = true) : nI (gp_sc (2 ^ es.length) (fun a => (f ≠ 0 → gp_rk (gp_sel es a) gp_id = gp_rk es gp_id) ∧ (l ≠ 0 → (gp_sel es a).length = gp_rk (gp_sel es a) gp_id))) = Int32.ofInt (gp_val (if full then 1 else 2) (if lean then 1 else 2) es gp_id) := by
  rw [n_ofInt, ← gp_cnt full lean es]
  congr 2
  exact gp_sc_congr (fun c _ => by rw [hf, hl])
theorem m2_trees {n : Nat} {es : List (Nat × Nat)} {u : S2} (hu : G2 n es u) : C2_trees [] u (fun r u' => G2 n es u' ∧ r = Int32.ofInt (gp_val 1 1 es gp_id)) := by
  refine Mi.start (by decide +kernel) rfl rfl (fun X a d h ret => ?_)
  have h : Ok X cX2_trees RX2 (t2 d) 5 116 := h
  show JJ X (w2 a d u) [some (.ref (a 0))] 0 []
  refine x_aload_n h dX2_trees_0 rfl ?_
  refine x_iconst (nI 1) h dX2_trees_1 (by decide) ?_
  refine x_iconst (nI 1) h dX2_trees_2 (by decide) ?_
  refine k2_count h dX2_trees_3 (m2_count hu (f := 1) (l := 1) (by decide) (by decide)) (by decide) (by decide) (Nat.le_of_ble_eq_true rfl) (fun r u' hp => ?_)
  exact ret _ _ _ _ dX2_trees_6 rfl ⟨hp.1, hp.2.trans (gp_cntI es true true (by decide) (by decide))⟩
theorem m2_forests {n : Nat} {es : List (Nat × Nat)} {u : S2} (hu : G2 n es u) : C2_forests [] u (fun r u' => G2 n es u' ∧ r = Int32.ofInt (gp_val 2 1 es gp_id)) := by
  refine Mi.start (by decide +kernel) rfl rfl (fun X a d h ret => ?_)
  have h : Ok X cX2_forests RX2 (t2 d) 5 116 := h
  show JJ X (w2 a d u) [some (.ref (a 0))] 0 []
  refine x_aload_n h dX2_forests_0 rfl ?_
  refine x_iconst (nI 0) h dX2_forests_1 (by decide) ?_
  refine x_iconst (nI 1) h dX2_forests_2 (by decide) ?_
  refine k2_count h dX2_forests_3 (m2_count hu (f := 0) (l := 1) (by decide) (by decide)) (by decide) (by decide) (Nat.le_of_ble_eq_true rfl) (fun r u' hp => ?_)
  exact ret _ _ _ _ dX2_forests_6 rfl ⟨hp.1, hp.2.trans (gp_cntI es false true (by decide) (by decide))⟩
theorem m2_spanning {n : Nat} {es : List (Nat × Nat)} {u : S2} (hu : G2 n es u) : C2_spanning [] u (fun r u' => G2 n es u' ∧ r = Int32.ofInt (gp_val 1 2 es gp_id)) := by
  refine Mi.start (by decide +kernel) rfl rfl (fun X a d h ret => ?_)
  have h : Ok X cX2_spanning RX2 (t2 d) 5 116 := h
  show JJ X (w2 a d u) [some (.ref (a 0))] 0 []
  refine x_aload_n h dX2_spanning_0 rfl ?_
  refine x_iconst (nI 1) h dX2_spanning_1 (by decide) ?_
  refine x_iconst (nI 0) h dX2_spanning_2 (by decide) ?_
  refine k2_count h dX2_spanning_3 (m2_count hu (f := 1) (l := 0) (by decide) (by decide)) (by decide) (by decide) (Nat.le_of_ble_eq_true rfl) (fun r u' hp => ?_)
  exact ret _ _ _ _ dX2_spanning_6 rfl ⟨hp.1, hp.2.trans (gp_cntI es true false (by decide) (by decide))⟩
end
section
set_option maxRecDepth 100000
theorem n_lofInt (n : Nat) : lN n = Int64.ofInt (n : Int) := by
  show Int64.ofNat n = _
  exact (Int64.ofInt_eq_ofNat).symm
theorem n_ladd (z : Int) (t : Nat) : Int64.ofInt z + lN t = Int64.ofInt (z + (t : Int)) := by rw [n_lofInt, Int64.ofInt_add]
theorem n_lsub (z : Int) (t : Nat) : Int64.ofInt z + -lN t = Int64.ofInt (z + -(t : Int)) := by rw [n_lofInt, ← Int64.ofInt_neg, Int64.ofInt_add]
def gp_tm (A B c : Nat) : Int := gp_B A 0 (c / 9) * gp_B B 0 (c % 9)
theorem gp_tm_at {A B i j : Nat} (hA : A < 9) (hB : B < 9) (hi : i ≤ A) (hj : j ≤ B) : gp_tm A B (9 * i + j) = gp_sg (A - i + B - j) * ((gp_ch A i * gp_ch B j : Nat) : Int) := by
  unfold gp_tm
  rw [show (9 * i + j) / 9 = i by omega, show (9 * i + j) % 9 = j by omega, gp_B_ch A hA i (by omega) hi, gp_B_ch B hB j (by omega) hj, show A - i + B - j = (A - i) + (B - j) by omega, gp_sg_add, Int.natCast_mul]
  generalize gp_sg (A - i) = S
  generalize gp_sg (B - j) = T
  generalize (gp_ch A i : Int) = U
  generalize (gp_ch B j : Int) = V
  grind
theorem m2_addTerm {n mm : Int32} {fi se la su : Nat → Int32} {po : Nat → Int64} {A B : Nat} (hA : A < 9) (hB : B < 9) {pz : Nat → Int} (hpo : ∀ c, c < 81 → po c = Int64.ofInt (pz c)) : C2_addTerm [.int (nI A), .int (nI B)] (n, mm, fi, se, la, su, po) (fun u' => ∃ po' : Nat → Int64, u' = (n, mm, fi, se, la, su, po') ∧ ∀ c, c < 81 → po' c = Int64.ofInt (pz c + gp_tm A B c)) := by
  refine Mv.start (by decide +kernel) rfl rfl (fun X a d h ret => ?_)
  have h : Ok X cX2_addTerm RX2 (t2 d) 1 25 := h
  show JJ X (w2 a d (n, mm, fi, se, la, su, po)) [some (.ref (a 0)), some (.int (nI A)), some (.int (nI B)), none, none, none, none] 0 []
  have outer : ∀ (k i : Nat) (po : Nat → Int64) (o1 o2 o3 : Option Value), lx_c1 o1 = true → lx_c1 o3 = true → i ≤ A + 1 → A + 2 ≤ i + k → (∀ c, c < 81 → po c = Int64.ofInt (pz c + (if c / 9 < i then gp_tm A B c else 0))) → JJ X (w2 a d (n, mm, fi, se, la, su, po)) [some (.ref (a 0)), some (.int (nI A)), some (.int (nI B)), some (.int (nI i)), o1, o2, o3] 2 [] := by
    intro k
    induction k with
    | zero => intro i po o1 o2 o3 hq1 hq3 h1 h2; omega
    | succ k ih =>
      intro i po o1 o2 o3 hq1 hq3 h1 h2 hp
      refine x_iload_n h dX2_addTerm_2 rfl ?_
      refine x_iload_n h dX2_addTerm_3 rfl ?_
      refine y_icmp_gt 80 h dX2_addTerm_4 (by decide) (by omega) (by omega) (fun c1 => ?_) (fun c1 => ?_)
      · have hi : i = A + 1 := by omega
        refine ret _ _ _ dX2_addTerm_80 ⟨po, rfl, fun c hc => ?_⟩
        rw [hp c hc]
        by_cases q : c / 9 < i
        · rw [if_pos q]
        · rw [if_neg q, show gp_tm A B c = 0 from by unfold gp_tm; rw [gp_B_0 A hA (c / 9) (by omega) (by omega), Int.zero_mul]]
      · have inner : ∀ (k j : Nat) (po : Nat → Int64) (o2 o3 : Option Value), lx_c1 o3 = true → j ≤ B + 1 → B + 2 ≤ j + k → (∀ c, c < 81 → po c = Int64.ofInt (pz c + (if c / 9 < i ∨ (c / 9 = i ∧ c % 9 < j) then gp_tm A B c else 0))) → JJ X (w2 a d (n, mm, fi, se, la, su, po)) [some (.ref (a 0)), some (.int (nI A)), some (.int (nI B)), some (.int (nI i)), some (.int (nI j)), o2, o3] 10 [] := by
          intro k
          induction k with
          | zero => intro j po o2 o3 hq3 h1 h2; omega
          | succ k ih2 =>
            intro j po o2 o3 hq3 h1 h2 hp
            refine x_iload h dX2_addTerm_10 rfl ?_
            refine x_iload_n h dX2_addTerm_12 rfl ?_
            refine y_icmp_gt 74 h dX2_addTerm_13 (by decide) (by omega) (by omega) (fun c2 => ?_) (fun c2 => ?_)
            · have hj : j = B + 1 := by omega
              refine ic_7_3 h dX2_addTerm_74 rfl ?_
              refine x_goto 2 h dX2_addTerm_77 (by decide) ?_
              refine ih (i + 1) po _ _ _ rfl hq3 (by omega) (by omega) (fun c hc => ?_)
              rw [hp c hc]
              by_cases q : c / 9 < i ∨ (c / 9 = i ∧ c % 9 < j)
              · rw [if_pos q, if_pos (by omega)]
              · rw [if_neg q]
                by_cases q2 : c / 9 < i + 1
                · rw [if_pos q2, show gp_tm A B c = 0 from by unfold gp_tm; rw [gp_B_0 B hB (c % 9) (by omega) (by omega), Int.mul_zero]]
                · rw [if_neg q2]
            · have hpc := hp (9 * i + j) (by omega)
              rw [if_neg (by omega), Int.add_zero] at hpc
              have htm := gp_tm_at hA hB c1 c2
              refine x_aload_n h dX2_addTerm_16 rfl ?_
              refine x_iload_n h dX2_addTerm_17 rfl ?_
              refine x_iload_n h dX2_addTerm_18 rfl ?_
              refine k2_choose h dX2_addTerm_19 (m2_choose _ hA c1) (by decide) (by decide) (Nat.le_of_ble_eq_true rfl) (fun r u' hp => ?_)
              obtain ⟨rfl, rfl⟩ := hp
              refine x_aload_n h dX2_addTerm_22 rfl ?_
              refine x_iload_n h dX2_addTerm_23 rfl ?_
              refine x_iload h dX2_addTerm_24 rfl ?_
              refine k2_choose h dX2_addTerm_26 (m2_choose _ hB c2) (by decide) (by decide) (Nat.le_of_ble_eq_true rfl) (fun r u' hp => ?_)
              obtain ⟨rfl, rfl⟩ := hp
              refine x_lmul h dX2_addTerm_29 ?_
              rw [lN_mul]
              generalize hM : gp_ch A i * gp_ch B j = M at htm ⊢
              refine ls_7_5 h dX2_addTerm_30 rfl ?_
              refine x_aload_n h dX2_addTerm_32 rfl ?_
              refine g2_po h dX2_addTerm_33 ?_
              refine x_bipush (nI 9) h dX2_addTerm_36 (by decide) ?_
              refine x_iload_n h dX2_addTerm_38 rfl ?_
              refine y_imul h dX2_addTerm_39 ?_
              refine x_iload h dX2_addTerm_40 rfl ?_
              refine y_iadd h dX2_addTerm_42 ?_
              refine x_dup2 h dX2_addTerm_43 rfl rfl ?_
              refine l2_po h dX2_addTerm_44 (by omega) ?_
              rw [hpc]
              have t67 : JJ X (w2 a d (n, mm, fi, se, la, su, po)) [some (.ref (a 0)), some (.int (nI A)), some (.int (nI B)), some (.int (nI i)), some (.int (nI j)), some (.long (lN M)), none] 67 [.long (Int64.ofInt (pz (9 * i + j) + gp_tm A B (9 * i + j))), .int (nI (9 * i + j)), .ref (a 5)] := by
                refine a2_po h dX2_addTerm_67 (by omega) ?_
                refine ic_7_4 h dX2_addTerm_68 rfl ?_
                refine x_goto 10 h dX2_addTerm_71 (by decide) ?_
                refine ih2 (j + 1) _ _ _ rfl (by omega) (by omega) (fun c hc => ?_)
                by_cases q : c = 9 * i + j
                · rw [q, pk_uLs, if_pos (by omega)]
                · rw [pk_uLn q, hp c hc]
                  by_cases q2 : c / 9 < i ∨ (c / 9 = i ∧ c % 9 < j)
                  · rw [if_pos q2, if_pos (by omega)]
                  · rw [if_neg q2, if_neg (by omega)]
              refine x_iload_n h dX2_addTerm_45 rfl ?_
              refine x_iload_n h dX2_addTerm_46 rfl ?_
              refine y_isub h dX2_addTerm_47 (by omega) ?_
              refine x_iload_n h dX2_addTerm_48 rfl ?_
              refine y_iadd h dX2_addTerm_49 ?_
              refine x_iload h dX2_addTerm_50 rfl ?_
              refine y_isub h dX2_addTerm_52 (by omega) ?_
              refine x_iconst (nI 2) h dX2_addTerm_53 (by decide) ?_
              refine y_irem h dX2_addTerm_54 (by omega) (by omega) (by omega) ?_
              refine y_if_ne 63 h dX2_addTerm_55 (by decide) (by omega) (fun c3 => ?_) (fun c3 => ?_)
              · refine x_lload h dX2_addTerm_63 rfl ?_
                refine x_lneg h dX2_addTerm_65 ?_
                refine x_ladd h dX2_addTerm_66 ?_
                rw [n_lsub]
                rw [htm, show gp_sg (A - i + B - j) = -1 from if_neg c3, show (-1 : Int) * (M : Int) = -(M : Int) by omega] at t67
                exact t67
              · refine x_lload h dX2_addTerm_58 rfl ?_
                refine x_goto 66 h dX2_addTerm_60 (by decide) ?_
                refine x_ladd h dX2_addTerm_66 ?_
                rw [n_ladd]
                rw [htm, show gp_sg (A - i + B - j) = 1 from if_pos c3, Int.one_mul] at t67
                exact t67
        refine x_iconst (nI 0) h dX2_addTerm_7 (by decide) ?_
        refine is_7_4 h dX2_addTerm_8 rfl ?_
        refine inner (B + 2) 0 po _ _ hq3 (by omega) (by omega) (fun c hc => ?_)
        rw [hp c hc]
        by_cases q : c / 9 < i
        · rw [if_pos q, if_pos (Or.inl q)]
        · rw [if_neg q, if_neg (by omega)]
  refine x_iconst (nI 0) h dX2_addTerm_0 (by decide) ?_
  refine is_7_3 h dX2_addTerm_1 rfl ?_
  refine outer (A + 2) 0 po _ _ _ rfl rfl (by omega) (by omega) (fun c hc => ?_)
  rw [if_neg (by omega), Int.add_zero]; exact hpo c hc
theorem m2_coefficient {n : Nat} {es : List (Nat × Nat)} {u : S2} (hu : G2 n es u) (x y : Int32) : C2_coefficient [.int x, .int y] u (fun r u' => G2 n es u' ∧ ((∃ i j : Nat, i < 9 ∧ j < 9 ∧ x = nI i ∧ y = nI j ∧ r = nI (gp_lc (9 * i + j) es gp_id 0 0)) ∨ ((x < 0 ∨ nI 8 < x ∨ y < 0 ∨ nI 8 < y) ∧ r = nI 0))) := by
  refine Mi.start (by decide +kernel) rfl rfl (fun X a d h ret => ?_)
  have h : Ok X cX2_coefficient RX2 (t2 d) 4 89 := h
  show JJ X (w2 a d u) [some (.ref (a 0)), some (.int x), some (.int y), none, none, none, none, none] 0 []
  have bad : (x < 0 ∨ nI 8 < x ∨ y < 0 ∨ nI 8 < y) → JJ X (w2 a d u) [some (.ref (a 0)), some (.int x), some (.int y), none, none, none, none, none] 20 [] := by
    intro hb
    refine x_iconst (nI 0) h dX2_coefficient_20 (by decide) ?_
    exact ret _ _ _ _ dX2_coefficient_21 rfl ⟨hu, Or.inr ⟨hb, rfl⟩⟩
  refine x_iload_n h dX2_coefficient_0 rfl ?_
  refine x_if_lt 20 h dX2_coefficient_1 (by decide) (fun c1 => ?_) (fun c1 => ?_)
  · exact bad (Or.inl c1)
  · refine x_iload_n h dX2_coefficient_4 rfl ?_
    refine x_bipush (nI 8) h dX2_coefficient_5 (by decide) ?_
    refine x_icmp_gt 20 h dX2_coefficient_7 (by decide) (fun c2 => ?_) (fun c2 => ?_)
    · exact bad (Or.inr (Or.inl c2))
    · refine x_iload_n h dX2_coefficient_10 rfl ?_
      refine x_if_lt 20 h dX2_coefficient_11 (by decide) (fun c3 => ?_) (fun c3 => ?_)
      · exact bad (Or.inr (Or.inr (Or.inl c3)))
      · refine x_iload_n h dX2_coefficient_14 rfl ?_
        refine x_bipush (nI 8) h dX2_coefficient_15 (by decide) ?_
        refine x_icmp_le 22 h dX2_coefficient_17 (by decide) (fun c4 => ?_) (fun c4 => ?_)
        · obtain ⟨i0, hi0, rfl⟩ := nI_of2 (n := 8) (M := nI 8) (by decide) c1 (Int32.not_lt.mp c2)
          obtain ⟨j0, hj0, rfl⟩ := nI_of2 (n := 8) (M := nI 8) (by decide) c3 c4
          clear bad c1 c2 c3 c4
          obtain ⟨fi, se, la, su, po, rfl, hes, hn, hn1, hm⟩ := hu
          have hp8 := gp_pow8 hm
          have hrl := gp_rk_len es gp_id
          have loop : ∀ (k i : Nat) (la : Nat → Int32) (po : Nat → Int64) (o6 o7 : Option Value), lx_c1 o6 = true → i ≤ 2 ^ es.length → 2 ^ es.length + 1 ≤ i + k → (∀ c, c < 81 → po c = Int64.ofInt (gp_su i (fun a => gp_tm (gp_rk es gp_id - gp_rk (gp_sel es a) gp_id) ((gp_sel es a).length - gp_rk (gp_sel es a) gp_id) c))) → JJ X (w2 a d (nI n, nI es.length, fi, se, la, su, po)) [some (.ref (a 0)), some (.int (nI i0)), some (.int (nI j0)), some (.int (nI (2 ^ es.length - 1))), some (.int (nI (gp_rk es gp_id))), some (.int (nI i)), o6, o7] 61 [] := by
            intro k
            induction k with
            | zero => intro i la po o6 o7 hq h1 h2; omega
            | succ k ih =>
              intro i la po o6 o7 hq h1 h2 hp
              refine x_iload h dX2_coefficient_61 rfl ?_
              refine x_iload_n h dX2_coefficient_63 rfl ?_
              refine y_icmp_gt 103 h dX2_coefficient_64 (by decide) (by omega) (by omega) (fun c5 => ?_) (fun c5 => ?_)
              · have hi : i = 2 ^ es.length := by omega
                refine x_aload_n h dX2_coefficient_103 rfl ?_
                refine g2_po h dX2_coefficient_104 ?_
                refine x_bipush (nI 9) h dX2_coefficient_107 (by decide) ?_
                refine x_iload_n h dX2_coefficient_109 rfl ?_
                refine y_imul h dX2_coefficient_110 ?_
                refine x_iload_n h dX2_coefficient_111 rfl ?_
                refine y_iadd h dX2_coefficient_112 ?_
                refine l2_po h dX2_coefficient_113 (by omega) ?_
                rw [hp _ (by omega)]
                refine x_l2i (nI (gp_lc (9 * i0 + j0) es gp_id 0 0)) h dX2_coefficient_114 ?_ ?_
                · rw [n_ofInt, ← gp_coefs es (by omega) (show j0 < 9 by omega), Int64.toInt32_ofInt, hi]
                  congr 1
                  refine gp_su_congr (fun c _ => ?_)
                  unfold gp_tm
                  rw [show (9 * i0 + j0) / 9 = i0 by omega, show (9 * i0 + j0) % 9 = j0 by omega]
                · exact ret _ _ _ _ dX2_coefficient_115 rfl ⟨⟨fi, se, la, su, po, rfl, hes, hn, hn1, hm⟩, Or.inl ⟨i0, j0, by omega, by omega, rfl, rfl, rfl⟩⟩
              · have hri := gp_rk_sel es gp_id i
                have hrl2 := gp_rk_len (gp_sel es i) gp_id
                have hli := gp_sel_len (L := es) i
                refine x_aload_n h dX2_coefficient_67 rfl ?_
                refine x_iload h dX2_coefficient_68 rfl ?_
                refine k2_rank h dX2_coefficient_70 (m2_rank hn hes hm (by omega)) (by decide) (by decide) (Nat.le_of_ble_eq_true rfl) (fun r u' hp => ?_)
                obtain ⟨la', rfl, rfl⟩ := hp
                refine is_8_6 h dX2_coefficient_73 rfl ?_
                refine x_aload_n h dX2_coefficient_75 rfl ?_
                refine x_iload h dX2_coefficient_76 rfl ?_
                refine k2_sizeOf h dX2_coefficient_78 (m2_sizeOf hes hm (by omega)) (by decide) (by decide) (Nat.le_of_ble_eq_true rfl) (fun r u' hp => ?_)
                obtain ⟨rfl, rfl⟩ := hp
                refine is_8_7 h dX2_coefficient_81 rfl ?_
                refine x_aload_n h dX2_coefficient_83 rfl ?_
                refine x_iload h dX2_coefficient_84 rfl ?_
                refine x_iload h dX2_coefficient_86 rfl ?_
                refine y_isub h dX2_coefficient_88 (by omega) ?_
                refine x_iload h dX2_coefficient_89 rfl ?_
                refine x_iload h dX2_coefficient_91 rfl ?_
                refine y_isub h dX2_coefficient_93 (by omega) ?_
                refine k2_addTerm h dX2_coefficient_94 (m2_addTerm (by omega) (by omega) hp) (by decide) (by decide) (Nat.le_of_ble_eq_true rfl) (fun u' hp => ?_)
                obtain ⟨po', rfl, hp'⟩ := hp
                refine ic_8_5 h dX2_coefficient_97 rfl ?_
                refine x_goto 61 h dX2_coefficient_100 (by decide) ?_
                exact ih (i + 1) la' po' _ _ rfl (by omega) (by omega) hp'
          have clr : ∀ (k i : Nat) (la : Nat → Int32) (po : Nat → Int64), i ≤ 81 → 82 ≤ i + k → (∀ c, c < i → po c = Int64.ofInt 0) → JJ X (w2 a d (nI n, nI es.length, fi, se, la, su, po)) [some (.ref (a 0)), some (.int (nI i0)), some (.int (nI j0)), some (.int (nI (2 ^ es.length - 1))), some (.int (nI (gp_rk es gp_id))), some (.int (nI i)), none, none] 37 [] := by
            intro k
            induction k with
            | zero => intro i la po h1 h2; omega
            | succ k ih =>
              intro i la po h1 h2 hp
              refine x_iload h dX2_coefficient_37 rfl ?_
              refine x_bipush (nI 81) h dX2_coefficient_39 (by decide) ?_
              refine y_icmp_ge 58 h dX2_coefficient_41 (by decide) (by omega) (by omega) (fun c5 => ?_) (fun c5 => ?_)
              · have hi : i = 81 := by omega
                subst hi
                refine x_iconst (nI 0) h dX2_coefficient_58 (by decide) ?_
                refine is_8_5 h dX2_coefficient_59 rfl ?_
                exact loop (2 ^ es.length + 1) 0 la po none none rfl (by omega) (by omega) hp
              · refine x_aload_n h dX2_coefficient_44 rfl ?_
                refine g2_po h dX2_coefficient_45 ?_
                refine x_iload h dX2_coefficient_48 rfl ?_
                refine x_lconst (Int64.ofInt 0) h dX2_coefficient_50 rfl ?_
                refine a2_po h dX2_coefficient_51 (by omega) ?_
                refine ic_8_5 h dX2_coefficient_52 rfl ?_
                refine x_goto 37 h dX2_coefficient_55 (by decide) ?_
                refine ih (i + 1) la _ (by omega) (by omega) (fun c hc => ?_)
                by_cases q : c = i
                · rw [q]; exact pk_uLs
                · rw [pk_uLn q]; exact hp c (by omega)
          refine x_aload_n h dX2_coefficient_22 rfl ?_
          refine k2_all h dX2_coefficient_23 (m2_all hm) (by decide) (by decide) (Nat.le_of_ble_eq_true rfl) (fun r u' hp => ?_)
          obtain ⟨rfl, rfl⟩ := hp
          refine is_8_3 h dX2_coefficient_26 rfl ?_
          refine x_aload_n h dX2_coefficient_27 rfl ?_
          refine x_iload_n h dX2_coefficient_28 rfl ?_
          refine k2_rank h dX2_coefficient_29 (m2_rank hn hes hm (by omega)) (by decide) (by decide) (Nat.le_of_ble_eq_true rfl) (fun r u' hp => ?_)
          obtain ⟨la', rfl, rfl⟩ := hp
          rw [gp_sel_all]
          refine is_8_4 h dX2_coefficient_32 rfl ?_
          refine x_iconst (nI 0) h dX2_coefficient_34 (by decide) ?_
          refine is_8_5 h dX2_coefficient_35 rfl ?_
          exact clr 82 0 la' po (by omega) (by omega) (fun c hc => by omega)
        · exact bad (Or.inr (Or.inr (Or.inr (Int32.not_le.mp c4))))
end
section
set_option maxRecDepth 100000
theorem gp_pow6 {k n : Nat} (hk : k ≤ 6) (hn : n ≤ 6) : k ^ n ≤ 46656 := Nat.le_trans (Nat.pow_le_pow_left hk n) (Nat.le_trans (Nat.pow_le_pow_right (by decide) hn) (by decide))
theorem gp_pow3 {b m : Nat} (hb : b ≤ 3) (hm : m ≤ 8) : b ^ m ≤ 6561 := Nat.le_trans (Nat.pow_le_pow_left hb m) (Nat.le_trans (Nat.pow_le_pow_right (by decide) hm) (by decide))
theorem gp_proper_snoc {k : Nat} {L : List (Nat × Nat)} {e : Nat × Nat} {c : Nat} (h : gp_proper k L c) (he : gp_dg k c e.1 ≠ gp_dg k c e.2) : gp_proper k (L ++ [e]) c := by
  intro q hq
  rcases List.mem_append.mp hq with r | r
  · exact h q r
  · rcases List.mem_cons.mp r with s | s
    · rw [s]; exact he
    · cases s
theorem m2_colourings {n : Nat} {es : List (Nat × Nat)} {u : S2} (hu : G2 n es u) (x : Int32) : C2_colourings [.int x] u (fun r u' => G2 n es u' ∧ gp_Rcol n es x r) := by
  refine Mi.start (by decide +kernel) rfl rfl (fun X a d h ret => ?_)
  have h : Ok X cX2_colourings RX2 (t2 d) 1 25 := h
  show JJ X (w2 a d u) [some (.ref (a 0)), some (.int x), none, none, none, none, none] 0 []
  have bad : (x < 0 ∨ nI 6 < x) → JJ X (w2 a d u) [some (.ref (a 0)), some (.int x), none, none, none, none, none] 10 [] := by
    intro hb
    refine x_iconst (-1) h dX2_colourings_10 (by decide) ?_
    exact ret _ _ _ _ dX2_colourings_11 rfl ⟨hu, Or.inr ⟨hb, rfl⟩⟩
  refine x_iload_n h dX2_colourings_0 rfl ?_
  refine x_if_lt 10 h dX2_colourings_1 (by decide) (fun c1 => ?_) (fun c1 => ?_)
  · exact bad (Or.inl c1)
  · refine x_iload_n h dX2_colourings_4 rfl ?_
    refine x_bipush (nI 6) h dX2_colourings_5 (by decide) ?_
    refine x_icmp_le 12 h dX2_colourings_7 (by decide) (fun c2 => ?_) (fun c2 => ?_)
    · obtain ⟨k, hk, rfl⟩ := nI_of2 (n := 6) (M := nI 6) (by decide) c1 c2
      have hu0 := hu
      obtain ⟨fi, se, la, su, po, rfl, hes, hn, hn1, hm⟩ := hu0
      clear bad
      have hw := gp_pow6 hk hn
      have outer : ∀ (q c : Nat) (o5 o6 : Option Value), lx_c1 o5 = true → c ≤ k ^ n → k ^ n + 1 ≤ c + q → JJ X (w2 a d (nI n, nI es.length, fi, se, la, su, po)) [some (.ref (a 0)), some (.int (nI k)), some (.int (nI (gp_sc c (gp_proper k es)))), some (.int (nI (k ^ n))), some (.int (nI c)), o5, o6] 27 [] := by
        intro q
        induction q with
        | zero => intro c o5 o6 hq h1 h2; omega
        | succ q ih =>
          intro c o5 o6 hq h1 h2
          refine x_iload h dX2_colourings_27 rfl ?_
          refine x_iload_n h dX2_colourings_29 rfl ?_
          refine y_icmp_ge 111 h dX2_colourings_30 (by decide) (by omega) (by omega) (fun c3 => ?_) (fun c3 => ?_)
          · have hc : c = k ^ n := by omega
            refine x_iload_n h dX2_colourings_111 rfl ?_
            exact ret _ _ _ _ dX2_colourings_112 rfl ⟨hu, Or.inl ⟨k, hk, rfl, by rw [hc]⟩⟩
          · have hk1 : 1 ≤ k := by
              rcases Nat.eq_zero_or_pos k with k0 | k0
              · rw [k0, Nat.zero_pow (by omega)] at c3; omega
              · exact k0
            have t97 : ∀ (g : Nat) (o : Option Value), (g = 1 ∧ gp_proper k es c) ∨ (g = 0 ∧ ¬ gp_proper k es c) → JJ X (w2 a d (nI n, nI es.length, fi, se, la, su, po)) [some (.ref (a 0)), some (.int (nI k)), some (.int (nI (gp_sc c (gp_proper k es)))), some (.int (nI (k ^ n))), some (.int (nI c)), some (.int (nI g)), o] 97 [] := by
              intro g o hg
              have hg2 : g < 2 := by omega
              refine x_iload h dX2_colourings_97 rfl ?_
              refine y_if_eq 105 h dX2_colourings_99 (by decide) (by omega) (fun c4 => ?_) (fun c4 => ?_)
              · have hnp : ¬ gp_proper k es c := by rcases hg with r | r; omega; exact r.2
                refine ic_7_4 h dX2_colourings_105 rfl ?_
                refine x_goto 27 h dX2_colourings_108 (by decide) ?_
                have hh := ih (c + 1) (some (.int (nI g))) o rfl (by omega) (by omega)
                rw [gp_sc_f hnp] at hh
                exact hh
              · have hnp : gp_proper k es c := by rcases hg with r | r; exact r.2; omega
                refine ic_7_2 h dX2_colourings_102 rfl ?_
                refine ic_7_4 h dX2_colourings_105 rfl ?_
                refine x_goto 27 h dX2_colourings_108 (by decide) ?_
                have hh := ih (c + 1) (some (.int (nI g))) o rfl (by omega) (by omega)
                rw [gp_sc_t hnp] at hh
                exact hh
            have inner : ∀ (q i g : Nat), i ≤ es.length → es.length + 1 ≤ i + q → ((g = 1 ∧ gp_proper k (es.take i) c) ∨ (g = 0 ∧ ¬ gp_proper k es c)) → JJ X (w2 a d (nI n, nI es.length, fi, se, la, su, po)) [some (.ref (a 0)), some (.int (nI k)), some (.int (nI (gp_sc c (gp_proper k es)))), some (.int (nI (k ^ n))), some (.int (nI c)), some (.int (nI g)), some (.int (nI i))] 39 [] := by
              intro q
              induction q with
              | zero => intro i g h1 h2; omega
              | succ q ih2 =>
                intro i g h1 h2 hg
                have hg2 : g < 2 := by omega
                refine x_iload h dX2_colourings_39 rfl ?_
                refine x_aload_n h dX2_colourings_41 rfl ?_
                refine g2_mm h dX2_colourings_42 ?_
                refine y_icmp_ge 97 h dX2_colourings_45 (by decide) (by omega) (by omega) (fun c4 => ?_) (fun c4 => ?_)
                · have hi : i = es.length := by omega
                  rw [hi, List.take_length] at hg
                  exact t97 g _ hg
                · refine x_iload h dX2_colourings_48 rfl ?_
                  refine y_if_eq 97 h dX2_colourings_50 (by decide) (by omega) (fun c5 => ?_) (fun c5 => ?_)
                  · refine t97 g _ (Or.inr ?_)
                    rcases hg with r | r
                    · omega
                    · exact r
                  · obtain ⟨e, he, hfe, hse, he1, he2, htk⟩ := gE_at hes c4
                    have hpr : gp_proper k (es.take i) c := by rcases hg with r | r; exact r.2; omega
                    refine x_aload_n h dX2_colourings_53 rfl ?_
                    refine x_iload h dX2_colourings_54 rfl ?_
                    refine x_iload_n h dX2_colourings_56 rfl ?_
                    refine x_aload_n h dX2_colourings_57 rfl ?_
                    refine g2_fi h dX2_colourings_58 ?_
                    refine x_iload h dX2_colourings_61 rfl ?_
                    refine l2_fi h dX2_colourings_63 (by omega) ?_
                    rw [hfe]
                    refine k2_digit h dX2_colourings_64 (m2_digit _ (by omega) hk1 (by omega) (by omega)) (by decide) (by decide) (Nat.le_of_ble_eq_true rfl) (fun r u' hp => ?_)
                    obtain ⟨rfl, rfl⟩ := hp
                    refine x_aload_n h dX2_colourings_67 rfl ?_
                    refine x_iload h dX2_colourings_68 rfl ?_
                    refine x_iload_n h dX2_colourings_70 rfl ?_
                    refine x_aload_n h dX2_colourings_71 rfl ?_
                    refine g2_se h dX2_colourings_72 ?_
                    refine x_iload h dX2_colourings_75 rfl ?_
                    refine l2_se h dX2_colourings_77 (by omega) ?_
                    rw [hse]
                    refine k2_digit h dX2_colourings_78 (m2_digit _ (by omega) hk1 (by omega) (by omega)) (by decide) (by decide) (Nat.le_of_ble_eq_true rfl) (fun r u' hp => ?_)
                    obtain ⟨rfl, rfl⟩ := hp
                    have hd1 := gp_dg_lt (k := k) (c := c) (p := e.1) hk1
                    have hd2 := gp_dg_lt (k := k) (c := c) (p := e.2) hk1
                    have t89 : ∀ g' : Nat, ((g' = 1 ∧ gp_proper k (es.take (i + 1)) c) ∨ (g' = 0 ∧ ¬ gp_proper k es c)) → JJ X (w2 a d (nI n, nI es.length, fi, se, la, su, po)) [some (.ref (a 0)), some (.int (nI k)), some (.int (nI (gp_sc c (gp_proper k es)))), some (.int (nI (k ^ n))), some (.int (nI c)), some (.int (nI g)), some (.int (nI i))] 89 [.int (nI g')] := by
                      intro g' hg'
                      refine is_7_5 h dX2_colourings_89 rfl ?_
                      refine ic_7_6 h dX2_colourings_91 rfl ?_
                      refine x_goto 39 h dX2_colourings_94 (by decide) ?_
                      exact ih2 (i + 1) g' (by omega) (by omega) hg'
                    refine y_icmp_eq 88 h dX2_colourings_81 (by decide) (by omega) (by omega) (fun c6 => ?_) (fun c6 => ?_)
                    · refine x_iconst (nI 0) h dX2_colourings_88 (by decide) ?_
                      exact t89 0 (Or.inr ⟨rfl, fun r => r e (List.mem_of_getElem? he) c6⟩)
                    · refine x_iconst (nI 1) h dX2_colourings_84 (by decide) ?_
                      refine x_goto 89 h dX2_colourings_85 (by decide) ?_
                      exact t89 1 (Or.inl ⟨rfl, by rw [htk]; exact gp_proper_snoc hpr c6⟩)
            refine x_iconst (nI 1) h dX2_colourings_33 (by decide) ?_
            refine is_7_5 h dX2_colourings_34 rfl ?_
            refine x_iconst (nI 0) h dX2_colourings_36 (by decide) ?_
            refine is_7_6 h dX2_colourings_37 rfl ?_
            exact inner (es.length + 1) 0 1 (by omega) (by omega) (Or.inl ⟨rfl, fun e he => by cases he⟩)
      refine x_iconst (nI 0) h dX2_colourings_12 (by decide) ?_
      refine is_7_2 h dX2_colourings_13 rfl ?_
      refine x_aload_n h dX2_colourings_14 rfl ?_
      refine x_iload_n h dX2_colourings_15 rfl ?_
      refine x_aload_n h dX2_colourings_16 rfl ?_
      refine g2_n h dX2_colourings_17 ?_
      refine k2_power h dX2_colourings_20 (m2_power _ (by omega)) (by decide) (by decide) (Nat.le_of_ble_eq_true rfl) (fun r u' hp => ?_)
      obtain ⟨rfl, rfl⟩ := hp
      refine is_7_3 h dX2_colourings_23 rfl ?_
      refine x_iconst (nI 0) h dX2_colourings_24 (by decide) ?_
      refine is_7_4 h dX2_colourings_25 rfl ?_
      exact outer (k ^ n + 1) 0 none none rfl (by omega) (by omega)
    · exact bad (Or.inr (Int32.not_le.mp c2))
theorem gp_fl_snoc (b : Nat) (L : List (Nat × Nat)) (e : Nat × Nat) : ∀ (c : Nat) (s : Nat → Int), gp_fl b (L ++ [e]) c s = gp_ad (gp_fl b L c s) e (1 + ((c / b ^ L.length % b : Nat) : Int)) := by
  induction L with
  | nil => intro c s; simp only [List.nil_append, gp_fl, List.length_nil, Nat.pow_zero, Nat.div_one]
  | cons q L ih =>
    intro c s
    simp only [List.cons_append, gp_fl, List.length_cons]
    rw [ih, Nat.div_div_eq_div_mul, Nat.pow_succ, Nat.mul_comm b]
theorem gp_fl_bd {b : Nat} (h1 : 1 ≤ b) (h3 : b ≤ 3) (L : List (Nat × Nat)) : ∀ (c : Nat) (s : Nat → Int) (B : Nat), (∀ p, -(B : Int) ≤ s p ∧ s p ≤ B) → ∀ p, -((B + 4 * L.length : Nat) : Int) ≤ gp_fl b L c s p ∧ gp_fl b L c s p ≤ ((B + 4 * L.length : Nat) : Int) := by
  induction L with
  | nil => intro c s B h p; exact h p
  | cons e L ih =>
    intro c s B h p
    have hm := Nat.mod_lt c h1
    have := ih (c / b) (gp_ad s e (1 + ((c % b : Nat) : Int))) (B + 4) (fun p => by
      have hp := h p
      simp only [gp_ad]
      split <;> split <;> omega) p
    simp only [gp_fl, List.length_cons]
    rw [show B + 4 * (L.length + 1) = B + 4 + 4 * L.length by omega]
    exact this
theorem n_rem0 : ∀ t : Nat, t < 65 → ∀ k : Nat, k < 5 → 1 ≤ k → ((Int32.ofInt ((t : Int) - 32) - Int32.ofInt ((t : Int) - 32) / nI k * nI k = 0) ↔ ((t : Int) - 32) % (k : Int) = 0) := by decide +kernel
theorem n_rem {s : Int} (h1 : -32 ≤ s) (h2 : s ≤ 32) {k : Nat} (hk : 1 ≤ k) (hk4 : k ≤ 4) : (Int32.ofInt s - Int32.ofInt s / nI k * nI k = 0) ↔ s % (k : Int) = 0 := by
  have := n_rem0 (s + 32).toNat (by omega) k (by omega) hk
  rw [show (((s + 32).toNat : Nat) : Int) - 32 = s by omega] at this
  exact this
theorem n_adds (s : Int) (v : Nat) : Int32.ofInt s + nI v = Int32.ofInt (s + (v : Int)) := by rw [n_ofInt, Int32.ofInt_add]
theorem n_subs (s : Int) (v : Nat) : Int32.ofInt s - nI v = Int32.ofInt (s - (v : Int)) := by rw [n_ofInt, Int32.ofInt_sub]
theorem gp_ad_at (s : Nat → Int) (e : Nat × Nat) (v : Int) (p : Nat) : gp_ad s e v p = s p + (if p = e.1 then v else 0) - (if p = e.2 then v else 0) := rfl
theorem m2_balanced {n : Nat} {fi se la su : Nat → Int32} {po : Nat → Int64} {es : List (Nat × Nat)} (hn : n ≤ 6) (hes : gE n es fi se) (hm : es.length ≤ 8) {k c : Nat} (hk : 1 ≤ k) (hk4 : k ≤ 4) (hc : c < 2147483648) (hb : es.length = 0 ∨ 2 ≤ k) : C2_balanced [.int (nI c), .int (nI k)] (nI n, nI es.length, fi, se, la, su, po) (fun r u' => ∃ su' : Nat → Int32, u' = (nI n, nI es.length, fi, se, la, su', po) ∧ ((gp_bal n k es c ∧ r = nI 1) ∨ (¬ gp_bal n k es c ∧ r = nI 0))) := by
  refine Mi.start (by decide +kernel) rfl rfl (fun X a d h ret => ?_)
  have h : Ok X cX2_balanced RX2 (t2 d) 1 25 := h
  show JJ X (w2 a d (nI n, nI es.length, fi, se, la, su, po)) [some (.ref (a 0)), some (.int (nI c)), some (.int (nI k)), none, none] 0 []
  have hbd : ∀ p, -32 ≤ gp_fl (k - 1) es c (fun _ => 0) p ∧ gp_fl (k - 1) es c (fun _ => 0) p ≤ 32 := by
    intro p
    rcases hb with q | q
    · rw [List.length_eq_zero_iff.mp q]
      exact ⟨by show (-32 : Int) ≤ 0; omega, by show (0 : Int) ≤ 32; omega⟩
    · have := gp_fl_bd (b := k - 1) (by omega) (by omega) es c (fun _ => 0) 0 (fun _ => ⟨by omega, by omega⟩) p
      omega
  have loop3 : ∀ (q i : Nat) (su : Nat → Int32) (o : Option Value), i ≤ n → n + 1 ≤ i + q → (∀ p, p < n → su p = Int32.ofInt (gp_fl (k - 1) es c (fun _ => 0) p)) → (∀ u, u < i → gp_fl (k - 1) es c (fun _ => 0) u % (k : Int) = 0) → JJ X (w2 a d (nI n, nI es.length, fi, se, la, su, po)) [some (.ref (a 0)), some (.int (nI c)), some (.int (nI k)), some (.int (nI i)), o] 86 [] := by
    intro q
    induction q with
    | zero => intro i su o h1 h2; omega
    | succ q ih =>
      intro i su o h1 h2 hsu hall
      refine x_iload_n h dX2_balanced_86 rfl ?_
      refine x_aload_n h dX2_balanced_87 rfl ?_
      refine g2_n h dX2_balanced_88 ?_
      refine y_icmp_ge 122 h dX2_balanced_91 (by decide) (by omega) (by omega) (fun c1 => ?_) (fun c1 => ?_)
      · have hi : i = n := by omega
        subst hi
        refine x_iconst (nI 1) h dX2_balanced_122 (by decide) ?_
        exact ret _ _ _ _ dX2_balanced_123 rfl ⟨su, rfl, Or.inl ⟨hall, rfl⟩⟩
      · have hr := n_rem (hbd i).1 (hbd i).2 hk hk4
        refine x_aload_n h dX2_balanced_94 rfl ?_
        refine g2_su h dX2_balanced_95 ?_
        refine x_iload_n h dX2_balanced_98 rfl ?_
        refine l2_su h dX2_balanced_99 (by omega) ?_
        rw [hsu i c1]
        refine x_iload_n h dX2_balanced_100 rfl ?_
        refine x_iconst (nI 1) h dX2_balanced_101 (by decide) ?_
        refine y_icmp_ge 109 h dX2_balanced_102 (by decide) (by omega) (by omega) (fun _ => ?_) (fun q => absurd q (by omega))
        refine x_iload_n h dX2_balanced_109 rfl ?_
        refine x_irem h dX2_balanced_110 (nI_ne0 (by omega) (by omega)) ?_
        refine x_if_eq 116 h dX2_balanced_111 (by decide) (fun c2 => ?_) (fun c2 => ?_)
        · refine ic_5_3 h dX2_balanced_116 rfl ?_
          refine x_goto 86 h dX2_balanced_119 (by decide) ?_
          refine ih (i + 1) su o (by omega) (by omega) hsu (fun u hu => ?_)
          by_cases q : u = i
          · rw [q]; exact hr.mp c2
          · exact hall u (by omega)
        · refine x_iconst (nI 0) h dX2_balanced_114 (by decide) ?_
          exact ret _ _ _ _ dX2_balanced_115 rfl ⟨su, rfl, Or.inr ⟨fun hb => c2 (hr.mpr (hb i c1)), rfl⟩⟩
  have loop2 : ∀ (q i : Nat) (su : Nat → Int32) (o : Option Value), i ≤ es.length → es.length + 1 ≤ i + q → (∀ p, p < n → su p = Int32.ofInt (gp_fl (k - 1) (es.take i) c (fun _ => 0) p)) → JJ X (w2 a d (nI n, nI es.length, fi, se, la, su, po)) [some (.ref (a 0)), some (.int (nI c)), some (.int (nI k)), some (.int (nI i)), o] 25 [] := by
    intro q
    induction q with
    | zero => intro i su o h1 h2; omega
    | succ q ih =>
      intro i su o h1 h2 hsu
      refine x_iload_n h dX2_balanced_25 rfl ?_
      refine x_aload_n h dX2_balanced_26 rfl ?_
      refine g2_mm h dX2_balanced_27 ?_
      refine y_icmp_ge 84 h dX2_balanced_30 (by decide) (by omega) (by omega) (fun c1 => ?_) (fun c1 => ?_)
      · have hi : i = es.length := by omega
        rw [hi, List.take_length] at hsu
        refine x_iconst (nI 0) h dX2_balanced_84 (by decide) ?_
        refine is_5_3 h dX2_balanced_85 rfl ?_
        exact loop3 (n + 1) 0 su o (by omega) (by omega) hsu (fun u hu => by omega)
      · obtain ⟨e, he, hfe, hse, he1, he2, htk⟩ := gE_at hes c1
        have hfl : gp_fl (k - 1) (es.take (i + 1)) c (fun _ => 0) = gp_ad (gp_fl (k - 1) (es.take i) c (fun _ => 0)) e (1 + ((gp_dg (k - 1) c i : Nat) : Int)) := by
          rw [htk, gp_fl_snoc, gp_take_len c1]; rfl
        refine x_iconst (nI 1) h dX2_balanced_33 (by decide) ?_
        refine x_aload_n h dX2_balanced_34 rfl ?_
        refine x_iload_n h dX2_balanced_35 rfl ?_
        refine x_iload_n h dX2_balanced_36 rfl ?_
        refine x_iconst (nI 1) h dX2_balanced_37 (by decide) ?_
        refine y_isub h dX2_balanced_38 (by omega) ?_
        refine x_iload_n h dX2_balanced_39 rfl ?_
        refine k2_digit h dX2_balanced_40 (m2_digit _ hc (by omega) (by omega) (by omega)) (by decide) (by decide) (Nat.le_of_ble_eq_true rfl) (fun r u' hp => ?_)
        obtain ⟨rfl, rfl⟩ := hp
        generalize gp_dg (k - 1) c i = v at hfl ⊢
        generalize gp_fl (k - 1) (es.take i) c (fun _ => 0) = S at hfl hsu ⊢
        refine y_iadd h dX2_balanced_43 ?_
        refine is_5_4 h dX2_balanced_44 rfl ?_
        refine x_aload_n h dX2_balanced_46 rfl ?_
        refine g2_su h dX2_balanced_47 ?_
        refine x_aload_n h dX2_balanced_50 rfl ?_
        refine g2_fi h dX2_balanced_51 ?_
        refine x_iload_n h dX2_balanced_54 rfl ?_
        refine l2_fi h dX2_balanced_55 (by omega) ?_
        rw [hfe]
        refine x_dup2 h dX2_balanced_56 rfl rfl ?_
        refine l2_su h dX2_balanced_57 (by omega) ?_
        rw [hsu e.1 he1]
        refine x_iload h dX2_balanced_58 rfl ?_
        refine x_iadd h dX2_balanced_60 ?_
        rw [n_adds]
        refine a2_su h dX2_balanced_61 (by omega) ?_
        refine x_aload_n h dX2_balanced_62 rfl ?_
        refine g2_su h dX2_balanced_63 ?_
        refine x_aload_n h dX2_balanced_66 rfl ?_
        refine g2_se h dX2_balanced_67 ?_
        refine x_iload_n h dX2_balanced_70 rfl ?_
        refine l2_se h dX2_balanced_71 (by omega) ?_
        rw [hse]
        refine x_dup2 h dX2_balanced_72 rfl rfl ?_
        refine l2_su h dX2_balanced_73 (by omega) ?_
        refine x_iload h dX2_balanced_74 rfl ?_
        refine x_isub h dX2_balanced_76 ?_
        refine a2_su h dX2_balanced_77 (by omega) ?_
        refine ic_5_3 h dX2_balanced_78 rfl ?_
        refine x_goto 25 h dX2_balanced_81 (by decide) ?_
        refine ih (i + 1) _ _ (by omega) (by omega) (fun p hp => ?_)
        rw [hfl]
        have hp2 := hsu p hp
        have hv2 := hsu e.2 he2
        by_cases q2 : p = e.2
        · rw [q2, pk_us]
          by_cases q1 : e.2 = e.1
          · rw [q1, pk_us, n_subs]
            congr 1
            rw [gp_ad_at]
            rw [if_pos rfl, if_pos q1.symm]
            omega
          · rw [pk_un q1, hv2, n_subs]
            congr 1
            rw [gp_ad_at]
            rw [if_neg q1, if_pos rfl]
            omega
        · rw [pk_un q2]
          by_cases q1 : p = e.1
          · rw [q1, pk_us]
            congr 1
            rw [gp_ad_at]
            rw [if_pos rfl, if_neg (fun r => q2 (q1.trans r))]
            omega
          · rw [pk_un q1, hp2]
            congr 1
            rw [gp_ad_at]
            rw [if_neg q1, if_neg q2]
            omega
  have loop1 : ∀ (q i : Nat) (su : Nat → Int32), i ≤ n → n + 1 ≤ i + q → (∀ p, p < i → su p = Int32.ofInt 0) → JJ X (w2 a d (nI n, nI es.length, fi, se, la, su, po)) [some (.ref (a 0)), some (.int (nI c)), some (.int (nI k)), some (.int (nI i)), none] 2 [] := by
    intro q
    induction q with
    | zero => intro i su h1 h2; omega
    | succ q ih =>
      intro i su h1 h2 hsu
      refine x_iload_n h dX2_balanced_2 rfl ?_
      refine x_aload_n h dX2_balanced_3 rfl ?_
      refine g2_n h dX2_balanced_4 ?_
      refine y_icmp_ge 23 h dX2_balanced_7 (by decide) (by omega) (by omega) (fun c1 => ?_) (fun c1 => ?_)
      · have hi : i = n := by omega
        subst hi
        refine x_iconst (nI 0) h dX2_balanced_23 (by decide) ?_
        refine is_5_3 h dX2_balanced_24 rfl ?_
        exact loop2 (es.length + 1) 0 su none (by omega) (by omega) hsu
      · refine x_aload_n h dX2_balanced_10 rfl ?_
        refine g2_su h dX2_balanced_11 ?_
        refine x_iload_n h dX2_balanced_14 rfl ?_
        refine x_iconst (Int32.ofInt 0) h dX2_balanced_15 rfl ?_
        refine a2_su h dX2_balanced_16 (by omega) ?_
        refine ic_5_3 h dX2_balanced_17 rfl ?_
        refine x_goto 2 h dX2_balanced_20 (by decide) ?_
        refine ih (i + 1) _ (by omega) (by omega) (fun p hp => ?_)
        by_cases q : p = i
        · rw [q]; exact pk_us
        · rw [pk_un q]; exact hsu p (by omega)
  refine x_iconst (nI 0) h dX2_balanced_0 (by decide) ?_
  refine is_5_3 h dX2_balanced_1 rfl ?_
  exact loop1 (n + 1) 0 su (by omega) (by omega) (fun p hp => by omega)
theorem m2_flows {n : Nat} {es : List (Nat × Nat)} {u : S2} (hu : G2 n es u) (x : Int32) : C2_flows [.int x] u (fun r u' => G2 n es u' ∧ gp_Rflow n es x r) := by
  refine Mi.start (by decide +kernel) rfl rfl (fun X a d h ret => ?_)
  have h : Ok X cX2_flows RX2 (t2 d) 2 49 := h
  show JJ X (w2 a d u) [some (.ref (a 0)), some (.int x), none, none, none] 0 []
  have bad : (x < nI 1 ∨ nI 4 < x) → JJ X (w2 a d u) [some (.ref (a 0)), some (.int x), none, none, none] 10 [] := by
    intro hb
    refine x_iconst (-1) h dX2_flows_10 (by decide) ?_
    exact ret _ _ _ _ dX2_flows_11 rfl ⟨hu, Or.inr ⟨hb, rfl⟩⟩
  refine x_iload_n h dX2_flows_0 rfl ?_
  refine x_iconst (nI 1) h dX2_flows_1 (by decide) ?_
  refine x_icmp_lt 10 h dX2_flows_2 (by decide) (fun c1 => ?_) (fun c1 => ?_)
  · exact bad (Or.inl c1)
  · refine x_iload_n h dX2_flows_5 rfl ?_
    refine x_iconst (nI 4) h dX2_flows_6 (by decide) ?_
    refine x_icmp_le 12 h dX2_flows_7 (by decide) (fun c2 => ?_) (fun c2 => ?_)
    · have c0 : ¬ x < 0 := fun q => c1 (Int32.lt_trans q (by decide))
      obtain ⟨k, hk, rfl⟩ := nI_of2 (n := 4) (M := nI 4) (by decide) c0 c2
      have hk1 : 1 ≤ k := by
        apply Classical.byContradiction
        intro q
        exact c1 ((n_lt (by omega) (by omega)).mpr (by omega))
      clear bad c0 c1 c2
      obtain ⟨fi, se, la, su, po, rfl, hes, hn, hn1, hm⟩ := hu
      have hw := gp_pow3 (b := k - 1) (by omega) hm
      have loop : ∀ (q c : Nat) (su : Nat → Int32), c ≤ (k - 1) ^ es.length → (k - 1) ^ es.length + 1 ≤ c + q → JJ X (w2 a d (nI n, nI es.length, fi, se, la, su, po)) [some (.ref (a 0)), some (.int (nI k)), some (.int (nI (gp_sc c (gp_bal n k es)))), some (.int (nI ((k - 1) ^ es.length))), some (.int (nI c))] 29 [] := by
        intro q
        induction q with
        | zero => intro c su h1 h2; omega
        | succ q ih =>
          intro c su h1 h2
          refine x_iload h dX2_flows_29 rfl ?_
          refine x_iload_n h dX2_flows_31 rfl ?_
          refine y_icmp_ge 54 h dX2_flows_32 (by decide) (by omega) (by omega) (fun c3 => ?_) (fun c3 => ?_)
          · have hc : c = (k - 1) ^ es.length := by omega
            refine x_iload_n h dX2_flows_54 rfl ?_
            exact ret _ _ _ _ dX2_flows_55 rfl ⟨⟨fi, se, la, su, po, rfl, hes, hn, hn1, hm⟩, Or.inl ⟨k, hk1, hk, rfl, by rw [hc]⟩⟩
          · have hb : es.length = 0 ∨ 2 ≤ k := by
              rcases Nat.lt_or_ge k 2 with q | q
              · left
                have : k - 1 = 0 := by omega
                rw [this] at c3
                rcases Nat.eq_zero_or_pos es.length with z | z
                · exact z
                · rw [Nat.zero_pow z] at c3; omega
              · exact Or.inr q
            refine x_aload_n h dX2_flows_35 rfl ?_
            refine x_iload h dX2_flows_36 rfl ?_
            refine x_iload_n h dX2_flows_38 rfl ?_
            refine k2_balanced h dX2_flows_39 (m2_balanced hn hes hm hk1 hk (by omega) hb) (by decide) (by decide) (Nat.le_of_ble_eq_true rfl) (fun r u' hp => ?_)
            obtain ⟨su', rfl, ⟨hq, rfl⟩ | ⟨hq, rfl⟩⟩ := hp
            · refine y_if_eq 48 h dX2_flows_42 (by decide) (by omega) (fun z => absurd z (by decide)) (fun _ => ?_)
              refine ic_5_2 h dX2_flows_45 rfl ?_
              refine ic_5_4 h dX2_flows_48 rfl ?_
              refine x_goto 29 h dX2_flows_51 (by decide) ?_
              have hh := ih (c + 1) su' (by omega) (by omega)
              rw [gp_sc_t hq] at hh
              exact hh
            · refine y_if_eq 48 h dX2_flows_42 (by decide) (by omega) (fun _ => ?_) (fun z => absurd rfl z)
              refine ic_5_4 h dX2_flows_48 rfl ?_
              refine x_goto 29 h dX2_flows_51 (by decide) ?_
              have hh := ih (c + 1) su' (by omega) (by omega)
              rw [gp_sc_f hq] at hh
              exact hh
      refine x_iconst (nI 0) h dX2_flows_12 (by decide) ?_
      refine is_5_2 h dX2_flows_13 rfl ?_
      refine x_aload_n h dX2_flows_14 rfl ?_
      refine x_iload_n h dX2_flows_15 rfl ?_
      refine x_iconst (nI 1) h dX2_flows_16 (by decide) ?_
      refine y_isub h dX2_flows_17 (by omega) ?_
      refine x_aload_n h dX2_flows_18 rfl ?_
      refine g2_mm h dX2_flows_19 ?_
      refine k2_power h dX2_flows_22 (m2_power _ (by omega)) (by decide) (by decide) (Nat.le_of_ble_eq_true rfl) (fun r u' hp => ?_)
      obtain ⟨rfl, rfl⟩ := hp
      refine is_5_3 h dX2_flows_25 rfl ?_
      refine x_iconst (nI 0) h dX2_flows_26 (by decide) ?_
      refine is_5_4 h dX2_flows_27 rfl ?_
      exact loop ((k - 1) ^ es.length + 1) 0 su (by omega) (by omega)
    · exact bad (Or.inr (Int32.not_le.mp c2))
end
section
set_option maxRecDepth 100000
theorem gp_or_at (L : List (Nat × Nat)) : ∀ (s i : Nat) (e : Nat × Nat), L[i]? = some e → (gp_or L s)[i]? = some (if s / 2 ^ i % 2 = 1 then (e.2, e.1) else e) := by
  induction L with
  | nil => intro s i e h; simp at h
  | cons q L ih =>
    intro s i e h
    cases i with
    | zero =>
      simp only [List.getElem?_cons_zero, Option.some.injEq] at h
      simp only [gp_or, List.getElem?_cons_zero, Nat.pow_zero, Nat.div_one]
      rw [h]
    | succ i =>
      simp only [List.getElem?_cons_succ] at h
      simp only [gp_or, List.getElem?_cons_succ]
      have e1 : s / 2 / 2 ^ i = s / 2 ^ (i + 1) := by rw [Nat.div_div_eq_div_mul, Nat.pow_succ, Nat.mul_comm]
      rw [ih (s / 2) i e h]
      simp only [e1]
theorem gp_rr_snoc (l : Nat → Nat) (A : List (Nat × Nat)) (e : Nat × Nat) : gp_rr l (A ++ [e]) = gp_rx (gp_rr l A) e := by
  unfold gp_rr
  rw [List.foldl_append]; rfl
theorem m2_noCircle {n : Nat} {fi se la su : Nat → Int32} {po : Nat → Int64} {es : List (Nat × Nat)} (hn : n ≤ 6) (hes : gE n es fi se) (hm : es.length ≤ 8) {s : Nat} (hs : s < 2147483648) : C2_noCircle [.int (nI s)] (nI n, nI es.length, fi, se, la, su, po) (fun r u' => ∃ la' : Nat → Int32, u' = (nI n, nI es.length, fi, se, la', su, po) ∧ ((gp_ac n gp_id (gp_or es s) ∧ r = nI 1) ∨ (¬ gp_ac n gp_id (gp_or es s) ∧ r = nI 0))) := by
  refine Mi.start (by decide +kernel) rfl rfl (fun X a d h ret => ?_)
  have h : Ok X cX2_noCircle RX2 (t2 d) 1 22 := h
  show JJ X (w2 a d (nI n, nI es.length, fi, se, la, su, po)) [some (.ref (a 0)), some (.int (nI s)), none, none, none, none] 0 []
  have hO := gp_es_or (gE_es hes) s
  have hOl := gp_or_len es s
  have hOat := gp_or_at es s
  have hnc := gp_nocirc hO
  generalize gp_or es s = O at ret hO hOl hOat hnc ⊢
  have hbd : ∀ r, r ≤ n + 1 → ∀ p, gp_rit r O p ≤ 56 := by
    intro r hr p
    have h1 := gp_rit_bd O r p
    have h2 : r * O.length ≤ 7 * 8 := Nat.mul_le_mul (by omega) (by omega)
    omega
  have loop3 : ∀ (q i : Nat) (la : Nat → Int32) (o3 o4 o5 : Option Value), i ≤ n → n + 1 ≤ i + q → (∀ p, p < n → la p = nI (gp_rit (n + 1) O p)) → (∀ u, u < i → gp_rit (n + 1) O u < n) → JJ X (w2 a d (nI n, nI es.length, fi, se, la, su, po)) [some (.ref (a 0)), some (.int (nI s)), some (.int (nI i)), o3, o4, o5] 142 [] := by
    intro q
    induction q with
    | zero => intro i la o3 o4 o5 h1 h2; omega
    | succ q ih =>
      intro i la o3 o4 o5 h1 h2 hla hall
      refine x_iload_n h dX2_noCircle_142 rfl ?_
      refine x_aload_n h dX2_noCircle_143 rfl ?_
      refine g2_n h dX2_noCircle_144 ?_
      refine y_icmp_ge 171 h dX2_noCircle_147 (by decide) (by omega) (by omega) (fun c1 => ?_) (fun c1 => ?_)
      · have hi : i = n := by omega
        subst hi
        refine x_iconst (nI 1) h dX2_noCircle_171 (by decide) ?_
        exact ret _ _ _ _ dX2_noCircle_172 rfl ⟨la, rfl, Or.inl ⟨hnc.mp hall, rfl⟩⟩
      · have hb := hbd (n + 1) (by omega) i
        refine x_aload_n h dX2_noCircle_150 rfl ?_
        refine g2_la h dX2_noCircle_151 ?_
        refine x_iload_n h dX2_noCircle_154 rfl ?_
        refine l2_la h dX2_noCircle_155 (by omega) ?_
        rw [hla i c1]
        refine x_aload_n h dX2_noCircle_156 rfl ?_
        refine g2_n h dX2_noCircle_157 ?_
        refine y_icmp_lt 165 h dX2_noCircle_160 (by decide) (by omega) (by omega) (fun c2 => ?_) (fun c2 => ?_)
        · refine ic_6_2 h dX2_noCircle_165 rfl ?_
          refine x_goto 142 h dX2_noCircle_168 (by decide) ?_
          refine ih (i + 1) la _ _ _ (by omega) (by omega) hla (fun u hu => ?_)
          by_cases q : u = i
          · rw [q]; exact c2
          · exact hall u (by omega)
        · refine x_iconst (nI 0) h dX2_noCircle_163 (by decide) ?_
          exact ret _ _ _ _ dX2_noCircle_164 rfl ⟨la, rfl, Or.inr ⟨fun hh => by have := hnc.mpr hh i c1; omega, rfl⟩⟩
  have loop2 : ∀ (q r : Nat) (la : Nat → Int32) (o3 o4 o5 : Option Value), lx_c1 o3 = true → lx_c1 o4 = true → r ≤ n + 1 → n + 2 ≤ r + q → (∀ p, p < n → la p = nI (gp_rit r O p)) → JJ X (w2 a d (nI n, nI es.length, fi, se, la, su, po)) [some (.ref (a 0)), some (.int (nI s)), some (.int (nI r)), o3, o4, o5] 25 [] := by
    intro q
    induction q with
    | zero => intro r la o3 o4 o5 hq3 hq4 h1 h2; omega
    | succ q ih =>
      intro r la o3 o4 o5 hq3 hq4 h1 h2 hla
      refine x_iload_n h dX2_noCircle_25 rfl ?_
      refine x_aload_n h dX2_noCircle_26 rfl ?_
      refine g2_n h dX2_noCircle_27 ?_
      refine y_icmp_gt 140 h dX2_noCircle_30 (by decide) (by omega) (by omega) (fun c1 => ?_) (fun c1 => ?_)
      · have hr : r = n + 1 := by omega
        subst hr
        refine x_iconst (nI 0) h dX2_noCircle_140 (by decide) ?_
        refine is_6_2 h dX2_noCircle_141 rfl ?_
        exact loop3 (n + 1) 0 la _ _ _ (by omega) (by omega) hla (fun u hu => by omega)
      · have inner : ∀ (q i : Nat) (la : Nat → Int32) (o4 o5 : Option Value), lx_c1 o4 = true → i ≤ es.length → es.length + 1 ≤ i + q → (∀ p, p < n → la p = nI (gp_rr (gp_rit r O) (O.take i) p)) → JJ X (w2 a d (nI n, nI es.length, fi, se, la, su, po)) [some (.ref (a 0)), some (.int (nI s)), some (.int (nI r)), some (.int (nI i)), o4, o5] 35 [] := by
          intro q
          induction q with
          | zero => intro i la o4 o5 hq4 h1 h2; omega
          | succ q ih2 =>
            intro i la o4 o5 hq4 h1 h2 hla
            refine x_iload_n h dX2_noCircle_35 rfl ?_
            refine x_aload_n h dX2_noCircle_36 rfl ?_
            refine g2_mm h dX2_noCircle_37 ?_
            refine y_icmp_ge 134 h dX2_noCircle_40 (by decide) (by omega) (by omega) (fun c2 => ?_) (fun c2 => ?_)
            · have hi : i = O.length := by omega
              rw [hi, List.take_length] at hla
              refine ic_6_2 h dX2_noCircle_134 rfl ?_
              refine x_goto 25 h dX2_noCircle_137 (by decide) ?_
              exact ih (r + 1) la _ _ _ rfl hq4 (by omega) (by omega) hla
            · obtain ⟨e, he, hfe, hse, he1, he2, -⟩ := gE_at hes c2
              have hOe := hOat i e he
              have hbnd : ∀ p, gp_rr (gp_rit r O) (O.take i) p ≤ 64 := by
                intro p
                have h3 := gp_rr_bd (O.take i) (gp_rit r O) 56 (hbd r (by omega)) p
                have h4 : (O.take i).length ≤ 8 := by rw [List.length_take]; omega
                omega
              have hstep : ∀ dd : Nat × Nat, O[i]? = some dd → gp_rr (gp_rit r O) (O.take (i + 1)) = gp_rx (gp_rr (gp_rit r O) (O.take i)) dd := by
                intro dd hdd
                rw [List.take_add_one, hdd, ← gp_rr_snoc]; rfl
              generalize gp_rr (gp_rit r O) (O.take i) = g at hla hbnd hstep
              have t93 : ∀ (dd : Nat × Nat) (o5 : Option Value), O[i]? = some dd → dd.1 < n → dd.2 < n → JJ X (w2 a d (nI n, nI es.length, fi, se, la, su, po)) [some (.ref (a 0)), some (.int (nI s)), some (.int (nI r)), some (.int (nI i)), some (.int (nI dd.1)), o5] 93 [.int (nI dd.2)] := by
                intro dd o5 hdd hd1 hd2
                have b1 := hbnd dd.1
                have b2 := hbnd dd.2
                have t128 : ∀ la' : Nat → Int32, (∀ p, p < n → la' p = nI (gp_rx g dd p)) → JJ X (w2 a d (nI n, nI es.length, fi, se, la', su, po)) [some (.ref (a 0)), some (.int (nI s)), some (.int (nI r)), some (.int (nI i)), some (.int (nI dd.1)), some (.int (nI dd.2))] 128 [] := by
                  intro la' hla'
                  refine ic_6_3 h dX2_noCircle_128 rfl ?_
                  refine x_goto 35 h dX2_noCircle_131 (by decide) ?_
                  exact ih2 (i + 1) la' _ _ rfl (by omega) (by omega) (by rw [hstep dd hdd]; exact hla')
                refine is_6_5 h dX2_noCircle_93 rfl ?_
                refine x_aload_n h dX2_noCircle_95 rfl ?_
                refine g2_la h dX2_noCircle_96 ?_
                refine x_iload h dX2_noCircle_99 rfl ?_
                refine l2_la h dX2_noCircle_101 (by omega) ?_
                rw [hla dd.1 hd1]
                refine x_aload_n h dX2_noCircle_102 rfl ?_
                refine g2_la h dX2_noCircle_103 ?_
                refine x_iload h dX2_noCircle_106 rfl ?_
                refine l2_la h dX2_noCircle_108 (by omega) ?_
                rw [hla dd.2 hd2]
                refine y_icmp_gt 128 h dX2_noCircle_109 (by decide) (by omega) (by omega) (fun c3 => ?_) (fun c3 => ?_)
                · refine t128 la (fun p hp => ?_)
                  rw [hla p hp, show gp_rx g dd p = g p from if_neg (fun q => by omega)]
                · refine x_aload_n h dX2_noCircle_112 rfl ?_
                  refine g2_la h dX2_noCircle_113 ?_
                  refine x_iload h dX2_noCircle_116 rfl ?_
                  refine x_aload_n h dX2_noCircle_118 rfl ?_
                  refine g2_la h dX2_noCircle_119 ?_
                  refine x_iload h dX2_noCircle_122 rfl ?_
                  refine l2_la h dX2_noCircle_124 (by omega) ?_
                  rw [hla dd.2 hd2]
                  refine x_iconst (nI 1) h dX2_noCircle_125 (by decide) ?_
                  refine y_iadd h dX2_noCircle_126 ?_
                  refine a2_la h dX2_noCircle_127 (by omega) ?_
                  refine t128 _ (fun p hp => ?_)
                  by_cases q : p = dd.1
                  · rw [q, pk_us, show gp_rx g dd dd.1 = g dd.2 + 1 from if_pos ⟨rfl, c3⟩]
                  · rw [pk_un q, hla p hp, show gp_rx g dd p = g p from if_neg (fun r => q r.1)]
              refine x_aload_n h dX2_noCircle_43 rfl ?_
              refine x_iload_n h dX2_noCircle_44 rfl ?_
              refine x_iload_n h dX2_noCircle_45 rfl ?_
              refine k2_in h dX2_noCircle_46 (m2_in _ hs (by omega)) (by decide) (by decide) (Nat.le_of_ble_eq_true rfl) (fun r u' hp => ?_)
              obtain ⟨rfl, rfl⟩ := hp
              refine y_if_eq 61 h dX2_noCircle_49 (by decide) (by omega) (fun c4 => ?_) (fun c4 => ?_)
              · rw [if_neg (by omega)] at hOe
                refine x_aload_n h dX2_noCircle_61 rfl ?_
                refine g2_fi h dX2_noCircle_62 ?_
                refine x_iload_n h dX2_noCircle_65 rfl ?_
                refine l2_fi h dX2_noCircle_66 (by omega) ?_
                rw [hfe]
                refine is_6_4 h dX2_noCircle_67 rfl ?_
                refine x_aload_n h dX2_noCircle_69 rfl ?_
                refine x_iload_n h dX2_noCircle_70 rfl ?_
                refine x_iload_n h dX2_noCircle_71 rfl ?_
                refine k2_in h dX2_noCircle_72 (m2_in _ hs (by omega)) (by decide) (by decide) (Nat.le_of_ble_eq_true rfl) (fun r u' hp => ?_)
                obtain ⟨rfl, rfl⟩ := hp
                refine y_if_eq 87 h dX2_noCircle_75 (by decide) (by omega) (fun c5 => ?_) (fun c5 => ?_)
                · refine x_aload_n h dX2_noCircle_87 rfl ?_
                  refine g2_se h dX2_noCircle_88 ?_
                  refine x_iload_n h dX2_noCircle_91 rfl ?_
                  refine l2_se h dX2_noCircle_92 (by omega) ?_
                  rw [hse]
                  exact t93 e _ hOe he1 he2
                · exact absurd c4 c5
              · rw [if_pos (by omega)] at hOe
                refine x_aload_n h dX2_noCircle_52 rfl ?_
                refine g2_se h dX2_noCircle_53 ?_
                refine x_iload_n h dX2_noCircle_56 rfl ?_
                refine l2_se h dX2_noCircle_57 (by omega) ?_
                rw [hse]
                refine x_goto 67 h dX2_noCircle_58 (by decide) ?_
                refine is_6_4 h dX2_noCircle_67 rfl ?_
                refine x_aload_n h dX2_noCircle_69 rfl ?_
                refine x_iload_n h dX2_noCircle_70 rfl ?_
                refine x_iload_n h dX2_noCircle_71 rfl ?_
                refine k2_in h dX2_noCircle_72 (m2_in _ hs (by omega)) (by decide) (by decide) (Nat.le_of_ble_eq_true rfl) (fun r u' hp => ?_)
                obtain ⟨rfl, rfl⟩ := hp
                refine y_if_eq 87 h dX2_noCircle_75 (by decide) (by omega) (fun c5 => ?_) (fun c5 => ?_)
                · exact absurd c5 c4
                · refine x_aload_n h dX2_noCircle_78 rfl ?_
                  refine g2_fi h dX2_noCircle_79 ?_
                  refine x_iload_n h dX2_noCircle_82 rfl ?_
                  refine l2_fi h dX2_noCircle_83 (by omega) ?_
                  rw [hfe]
                  refine x_goto 93 h dX2_noCircle_84 (by decide) ?_
                  exact t93 (e.2, e.1) _ hOe he2 he1
        refine x_iconst (nI 0) h dX2_noCircle_33 (by decide) ?_
        refine is_6_3 h dX2_noCircle_34 rfl ?_
        exact inner (es.length + 1) 0 la _ _ hq4 (by omega) (by omega) hla
  have loop1 : ∀ (q i : Nat) (la : Nat → Int32), i ≤ n → n + 1 ≤ i + q → (∀ p, p < i → la p = nI 0) → JJ X (w2 a d (nI n, nI es.length, fi, se, la, su, po)) [some (.ref (a 0)), some (.int (nI s)), some (.int (nI i)), none, none, none] 2 [] := by
    intro q
    induction q with
    | zero => intro i la h1 h2; omega
    | succ q ih =>
      intro i la h1 h2 hla
      refine x_iload_n h dX2_noCircle_2 rfl ?_
      refine x_aload_n h dX2_noCircle_3 rfl ?_
      refine g2_n h dX2_noCircle_4 ?_
      refine y_icmp_ge 23 h dX2_noCircle_7 (by decide) (by omega) (by omega) (fun c1 => ?_) (fun c1 => ?_)
      · have hi : i = n := by omega
        subst hi
        refine x_iconst (nI 0) h dX2_noCircle_23 (by decide) ?_
        refine is_6_2 h dX2_noCircle_24 rfl ?_
        exact loop2 (i + 2) 0 la none none none rfl rfl (by omega) (by omega) hla
      · refine x_aload_n h dX2_noCircle_10 rfl ?_
        refine g2_la h dX2_noCircle_11 ?_
        refine x_iload_n h dX2_noCircle_14 rfl ?_
        refine x_iconst (nI 0) h dX2_noCircle_15 (by decide) ?_
        refine a2_la h dX2_noCircle_16 (by omega) ?_
        refine ic_6_2 h dX2_noCircle_17 rfl ?_
        refine x_goto 2 h dX2_noCircle_20 (by decide) ?_
        refine ih (i + 1) _ (by omega) (by omega) (fun p hp => ?_)
        by_cases q : p = i
        · rw [q]; exact pk_us
        · rw [pk_un q]; exact hla p (by omega)
  refine x_iconst (nI 0) h dX2_noCircle_0 (by decide) ?_
  refine is_6_2 h dX2_noCircle_1 rfl ?_
  exact loop1 (n + 1) 0 la (by omega) (by omega) (fun p hp => by omega)
theorem m2_acyclic {n : Nat} {es : List (Nat × Nat)} {u : S2} (hu : G2 n es u) : C2_acyclic [] u (fun r u' => G2 n es u' ∧ r = Int32.ofInt (gp_val 2 0 es gp_id)) := by
  obtain ⟨fi, se, la, su, po, rfl, hes, hn, hn1, hm⟩ := hu
  have hp8 := gp_pow8 hm
  have hac := gp_acyclic n es (gE_es hes)
  refine Mi.start (by decide +kernel) rfl rfl (fun X a d h ret => ?_)
  have h : Ok X cX2_acyclic RX2 (t2 d) 2 47 := h
  show JJ X (w2 a d (nI n, nI es.length, fi, se, la, su, po)) [some (.ref (a 0)), none, none] 0 []
  have loop : ∀ (q i : Nat) (la : Nat → Int32), i ≤ 2 ^ es.length → 2 ^ es.length + 1 ≤ i + q → JJ X (w2 a d (nI n, nI es.length, fi, se, la, su, po)) [some (.ref (a 0)), some (.int (nI (gp_sc i (fun a => gp_ac n gp_id (gp_or es a))))), some (.int (nI i))] 4 [] := by
    intro q
    induction q with
    | zero => intro i la h1 h2; omega
    | succ q ih =>
      intro i la h1 h2
      refine x_iload_n h dX2_acyclic_4 rfl ?_
      refine x_aload_n h dX2_acyclic_5 rfl ?_
      refine k2_all h dX2_acyclic_6 (m2_all hm) (by decide) (by decide) (Nat.le_of_ble_eq_true rfl) (fun r u' hp => ?_)
      obtain ⟨rfl, rfl⟩ := hp
      refine y_icmp_gt 29 h dX2_acyclic_9 (by decide) (by omega) (by omega) (fun c1 => ?_) (fun c1 => ?_)
      · have hi : i = 2 ^ es.length := by omega
        refine x_iload_n h dX2_acyclic_29 rfl ?_
        exact ret _ _ _ _ dX2_acyclic_30 rfl ⟨⟨fi, se, la, su, po, rfl, hes, hn, hn1, hm⟩, by rw [n_ofInt, hi, hac]⟩
      · refine x_aload_n h dX2_acyclic_12 rfl ?_
        refine x_iload_n h dX2_acyclic_13 rfl ?_
        refine k2_noCircle h dX2_acyclic_14 (m2_noCircle hn hes hm (by omega)) (by decide) (by decide) (Nat.le_of_ble_eq_true rfl) (fun r u' hp => ?_)
        obtain ⟨la', rfl, ⟨hq, rfl⟩ | ⟨hq, rfl⟩⟩ := hp
        · refine y_if_eq 23 h dX2_acyclic_17 (by decide) (by omega) (fun z => absurd z (by decide)) (fun _ => ?_)
          refine ic_3_1 h dX2_acyclic_20 rfl ?_
          refine ic_3_2 h dX2_acyclic_23 rfl ?_
          refine x_goto 4 h dX2_acyclic_26 (by decide) ?_
          have hh := ih (i + 1) la' (by omega) (by omega)
          rw [gp_sc_t (P := fun a => gp_ac n gp_id (gp_or es a)) hq] at hh
          exact hh
        · refine y_if_eq 23 h dX2_acyclic_17 (by decide) (by omega) (fun _ => ?_) (fun z => absurd rfl z)
          refine ic_3_2 h dX2_acyclic_23 rfl ?_
          refine x_goto 4 h dX2_acyclic_26 (by decide) ?_
          have hh := ih (i + 1) la' (by omega) (by omega)
          rw [gp_sc_f (P := fun a => gp_ac n gp_id (gp_or es a)) hq] at hh
          exact hh
  refine x_iconst (nI 0) h dX2_acyclic_0 (by decide) ?_
  refine is_3_1 h dX2_acyclic_1 rfl ?_
  refine x_iconst (nI 0) h dX2_acyclic_2 (by decide) ?_
  refine is_3_2 h dX2_acyclic_3 rfl ?_
  exact loop (2 ^ es.length + 1) 0 la (by omega) (by omega)
end
section
set_option maxRecDepth 100000
/-! the constructors -/
def gp_c32 (x : Int32) : Int32 := if 1 ≤ x then (if x ≤ 6 then x else 6) else 1
def gp_cl (x : Int32) : Nat := (gp_c32 x).toNatClampNeg
theorem gp_c32_ex (x : Int32) : ∃ j : Nat, 1 ≤ j ∧ j ≤ 6 ∧ gp_c32 x = nI j := by
  unfold gp_c32
  by_cases a : 1 ≤ x
  · by_cases b : x ≤ 6
    · rw [if_pos a, if_pos b]
      have h0 : ¬ x < 0 := fun q => absurd (Int32.lt_of_le_of_lt a q) (by decide)
      obtain ⟨j, hj, rfl⟩ := nI_of2 (n := 6) (M := 6) (by decide) h0 b
      refine ⟨j, ?_, hj, rfl⟩
      exact (n_le (a := 1) (by decide) (by omega)).mp (show nI 1 ≤ nI j from a)
    · rw [if_pos a, if_neg b]; exact ⟨6, by decide, by decide, by decide⟩
  · rw [if_neg a]; exact ⟨1, by decide, by decide, by decide⟩
theorem gp_cl_eq (x : Int32) : gp_c32 x = nI (gp_cl x) ∧ 1 ≤ gp_cl x ∧ gp_cl x ≤ 6 := by
  obtain ⟨j, h1, h2, h3⟩ := gp_c32_ex x
  have : gp_cl x = j := by unfold gp_cl; rw [h3]; exact nI_clamp (by omega)
  rw [this]; exact ⟨h3, h1, h2⟩
theorem gE_nil (n : Nat) (f g : Nat → Int32) : gE n [] f g := fun j e h => by simp at h
set_option maxHeartbeats 4000000 in
theorem metX1_init (l : Launch) (D : va_G) (h0 sz : Nat) (x : Int32) : Met l yX1_init (ws_ yX1_init cX1_init 2 none) ({ frames := 1, cells := 7, slots := 145, locals := 12 }) (va_Pc [.ref h0, .int x] (fun U => U.heap.size = sz ∧ va_P D vwCl [(h0, .inr (0, [.int 0, .int 0, .null, .null, .int 0, .null, .int 0, .null, .null, .null, .null]))] U.heap ∧ va_K D vwCl [] U ∧ va_D (fun _ => True) [(h0, .inr (0, [.int 0, .int 0, .null, .null, .int 0, .null, .int 0, .null, .null, .null, .null]))])) (va_Qv (fun u : (Nat → Nat) × (Nat → ClassId) × S1 => u.1 0 = h0 ∧ G1 (gp_cl x) [] u.2.2) (fun u t => va_P D vwCl (w1 u.1 u.2.1 u.2.2) t.heap ∧ va_K D vwCl (t1 u.2.1) t ∧ va_D (va_A [(h0, .inr (0, [.int 0, .int 0, .null, .null, .int 0, .null, .int 0, .null, .null, .null, .null]))] sz) (w1 u.1 u.2.1 u.2.2)) (va_A [(h0, .inr (0, [.int 0, .int 0, .null, .null, .int 0, .null, .int 0, .null, .null, .null, .null]))] sz)) 7 145 (va_A [(h0, .inr (0, [.int 0, .int 0, .null, .null, .int 0, .null, .int 0, .null, .null, .null, .null]))] sz) := by
  refine Met.ofW (cc := cX1_init) (maxL := 2) (ret := none) (by decide +kernel) rfl ?_
  intro p e s m args below meth c s₁ B hml hv
  obtain ⟨rfl, hsz, hP, hK, hD0⟩ := hv
  have hx := B.exec
  have hb := B.bytes
  have hr := B.returns
  have hts := atoms_spec (ws := ws_ yX1_init cX1_init 2 none) B.pre
  have hts : ∀ w ∈ lw_all, w.before _ s = true := fun w h => hts w (List.mem_cons_of_mem _ h)
  have hown : s.vm.findClass RX1 = some m.cls := findClass_of_methodNamed B.named
  have hlocks := B.notSynchronized
  have hin : meth.name = "<init>" := (name_of_methodNamed B.named B.method).1
  subst hsz
  have hD := hD0.self (sz := s.heap.size)
  generalize hAe : va_A [(h0, .inr (0, [.int 0, .int 0, .null, .null, .int 0, .null, .int 0, .null, .null, .null, .null]))] s.heap.size = A at hD ⊢
  have hA : ∀ q : Nat, s.heap.size ≤ q → A q := fun q h => by rw [← hAe]; exact Or.inr h
  have hS : va_S A s.heap s.heap [] := va_S.rf
  have hl := lv_entry ([.ref h0, .int x]) (n := 2) (Nat.le_of_ble_eq_true rfl)
  rw [lg_entry_eq]
  generalize (lg_sl ([.ref h0, .int x]) ++ List.replicate (2 - (lg_sl ([.ref h0, .int x])).length) Slot.unset).toArray = ls at hl ⊢
  have hl : lv_has ls 2 [(0, .ref h0), (1, .int x)] := hl
  refine lv_aload_n hx hb dX1_init_0 rfl (lv_at hl 0 rfl) ?_
  refine W.objInit hx hb hown (hts _ q31) (hts _ q32) (hts _ q33) rfl (by rw [hml]; exact hl.1) rfl dX1_init_1 (Nat.le_of_ble_eq_true rfl) (Nat.le_of_ble_eq_true rfl) ?_
  refine W.eq (g2 := F0 m 4 ls []) rfl ?_
  refine lv_aload_n hx hb dX1_init_4 rfl (lv_at hl 0 rfl) ?_
  refine lv_bipush (v := 8) hx hb dX1_init_5 (by decide) ?_
  refine va_newa (a0 := (8, .inl (fun _ => 0))) (ty := .byte) (atype := .byte) hx hb (hts _ q68) rfl hK hP hD hS hA (fun _ => rfl) (by decide) (by decide) (by decide) (Nat.le_of_ble_eq_true rfl) (Nat.le_of_ble_eq_true rfl) dX1_init_7 (fun q1 k1 H hK hP hD hS => ?_)
  have hP : va_P D vwCl [(h0, .inr (0, [.int 0, .int 0, .null, .null, .int 0, .null, .int 0, .null, .null, .null, .null])), (q1, .inl (k1, 8, .inl (fun _ => 0)))] H := hP
  have hD : va_D A [(h0, .inr (0, [.int 0, .int 0, .null, .null, .int 0, .null, .int 0, .null, .null, .null, .null])), (q1, .inl (k1, 8, .inl (fun _ => 0)))] := hD
  have hK : va_K D vwCl [(k1, .byte)] s := hK
  refine va_putF (D := D) (ci := 0) (v := .ref q1) (ty := .array .byte) (C := RX1) (T := TX1) (N := 11) hx hb hts in_X1 tyX1 tyX1_ok nmX1 hown hK hP hD hS 0 rfl rfl 2 (by decide) (hts _ q36) (fun _ h9 => h9) rfl hin rfl (by decide +kernel) rfl rfl (Nat.le_of_ble_eq_true rfl) dX1_init_9 (fun H locs hP hD hS => ?_)
  have hP : va_P D vwCl [(h0, .inr (0, [.int 0, .int 0, .ref q1, .null, .int 0, .null, .int 0, .null, .null, .null, .null])), (q1, .inl (k1, 8, .inl (fun _ => 0)))] H := hP
  have hD : va_D A [(h0, .inr (0, [.int 0, .int 0, .ref q1, .null, .int 0, .null, .int 0, .null, .null, .null, .null])), (q1, .inl (k1, 8, .inl (fun _ => 0)))] := hD
  refine lv_aload_n hx hb dX1_init_12 rfl (lv_at hl 0 rfl) ?_
  refine lv_bipush (v := 8) hx hb dX1_init_13 (by decide) ?_
  refine va_newa (a0 := (8, .inl (fun _ => 0))) (ty := .byte) (atype := .byte) hx hb (hts _ q68) rfl hK hP hD hS hA (fun _ => rfl) (by decide) (by decide) (by decide) (Nat.le_of_ble_eq_true rfl) (Nat.le_of_ble_eq_true rfl) dX1_init_15 (fun q2 k2 H hK hP hD hS => ?_)
  have hP : va_P D vwCl [(h0, .inr (0, [.int 0, .int 0, .ref q1, .null, .int 0, .null, .int 0, .null, .null, .null, .null])), (q1, .inl (k1, 8, .inl (fun _ => 0))), (q2, .inl (k2, 8, .inl (fun _ => 0)))] H := hP
  have hD : va_D A [(h0, .inr (0, [.int 0, .int 0, .ref q1, .null, .int 0, .null, .int 0, .null, .null, .null, .null])), (q1, .inl (k1, 8, .inl (fun _ => 0))), (q2, .inl (k2, 8, .inl (fun _ => 0)))] := hD
  have hK : va_K D vwCl [(k1, .byte), (k2, .byte)] s := hK
  refine va_putF (D := D) (ci := 0) (v := .ref q2) (ty := .array .byte) (C := RX1) (T := TX1) (N := 11) hx hb hts in_X1 tyX1 tyX1_ok nmX1 hown hK hP hD hS 0 rfl rfl 3 (by decide) (hts _ q37) (fun _ h9 => h9) rfl hin rfl (by decide +kernel) rfl rfl (Nat.le_of_ble_eq_true rfl) dX1_init_17 (fun H locs hP hD hS => ?_)
  have hP : va_P D vwCl [(h0, .inr (0, [.int 0, .int 0, .ref q1, .ref q2, .int 0, .null, .int 0, .null, .null, .null, .null])), (q1, .inl (k1, 8, .inl (fun _ => 0))), (q2, .inl (k2, 8, .inl (fun _ => 0)))] H := hP
  have hD : va_D A [(h0, .inr (0, [.int 0, .int 0, .ref q1, .ref q2, .int 0, .null, .int 0, .null, .null, .null, .null])), (q1, .inl (k1, 8, .inl (fun _ => 0))), (q2, .inl (k2, 8, .inl (fun _ => 0)))] := hD
  refine lv_aload_n hx hb dX1_init_20 rfl (lv_at hl 0 rfl) ?_
  refine lv_bipush (v := 81) hx hb dX1_init_21 (by decide) ?_
  refine va_newa (a0 := (81, .inl (fun _ => 0))) (ty := .int) (atype := .int) hx hb (hts _ q69) rfl hK hP hD hS hA (fun _ => rfl) (by decide) (by decide) (by decide) (Nat.le_of_ble_eq_true rfl) (Nat.le_of_ble_eq_true rfl) dX1_init_23 (fun q3 k3 H hK hP hD hS => ?_)
  have hP : va_P D vwCl [(h0, .inr (0, [.int 0, .int 0, .ref q1, .ref q2, .int 0, .null, .int 0, .null, .null, .null, .null])), (q1, .inl (k1, 8, .inl (fun _ => 0))), (q2, .inl (k2, 8, .inl (fun _ => 0))), (q3, .inl (k3, 81, .inl (fun _ => 0)))] H := hP
  have hD : va_D A [(h0, .inr (0, [.int 0, .int 0, .ref q1, .ref q2, .int 0, .null, .int 0, .null, .null, .null, .null])), (q1, .inl (k1, 8, .inl (fun _ => 0))), (q2, .inl (k2, 8, .inl (fun _ => 0))), (q3, .inl (k3, 81, .inl (fun _ => 0)))] := hD
  have hK : va_K D vwCl [(k1, .byte), (k2, .byte), (k3, .int)] s := hK
  refine va_putF (D := D) (ci := 0) (v := .ref q3) (ty := .array .int) (C := RX1) (T := TX1) (N := 11) hx hb hts in_X1 tyX1 tyX1_ok nmX1 hown hK hP hD hS 0 rfl rfl 5 (by decide) (hts _ q39) (fun _ h9 => h9) rfl hin rfl (by decide +kernel) rfl rfl (Nat.le_of_ble_eq_true rfl) dX1_init_25 (fun H locs hP hD hS => ?_)
  have hP : va_P D vwCl [(h0, .inr (0, [.int 0, .int 0, .ref q1, .ref q2, .int 0, .ref q3, .int 0, .null, .null, .null, .null])), (q1, .inl (k1, 8, .inl (fun _ => 0))), (q2, .inl (k2, 8, .inl (fun _ => 0))), (q3, .inl (k3, 81, .inl (fun _ => 0)))] H := hP
  have hD : va_D A [(h0, .inr (0, [.int 0, .int 0, .ref q1, .ref q2, .int 0, .ref q3, .int 0, .null, .null, .null, .null])), (q1, .inl (k1, 8, .inl (fun _ => 0))), (q2, .inl (k2, 8, .inl (fun _ => 0))), (q3, .inl (k3, 81, .inl (fun _ => 0)))] := hD
  refine lv_aload_n hx hb dX1_init_28 rfl (lv_at hl 0 rfl) ?_
  refine lv_bipush (v := 12) hx hb dX1_init_29 (by decide) ?_
  refine va_newa (a0 := (12, .inl (fun _ => 0))) (ty := .short) (atype := .short) hx hb (hts _ q70) rfl hK hP hD hS hA (fun _ => rfl) (by decide) (by decide) (by decide) (Nat.le_of_ble_eq_true rfl) (Nat.le_of_ble_eq_true rfl) dX1_init_31 (fun q4 k4 H hK hP hD hS => ?_)
  have hP : va_P D vwCl [(h0, .inr (0, [.int 0, .int 0, .ref q1, .ref q2, .int 0, .ref q3, .int 0, .null, .null, .null, .null])), (q1, .inl (k1, 8, .inl (fun _ => 0))), (q2, .inl (k2, 8, .inl (fun _ => 0))), (q3, .inl (k3, 81, .inl (fun _ => 0))), (q4, .inl (k4, 12, .inl (fun _ => 0)))] H := hP
  have hD : va_D A [(h0, .inr (0, [.int 0, .int 0, .ref q1, .ref q2, .int 0, .ref q3, .int 0, .null, .null, .null, .null])), (q1, .inl (k1, 8, .inl (fun _ => 0))), (q2, .inl (k2, 8, .inl (fun _ => 0))), (q3, .inl (k3, 81, .inl (fun _ => 0))), (q4, .inl (k4, 12, .inl (fun _ => 0)))] := hD
  have hK : va_K D vwCl [(k1, .byte), (k2, .byte), (k3, .int), (k4, .short)] s := hK
  refine va_putF (D := D) (ci := 0) (v := .ref q4) (ty := .array .short) (C := RX1) (T := TX1) (N := 11) hx hb hts in_X1 tyX1 tyX1_ok nmX1 hown hK hP hD hS 0 rfl rfl 7 (by decide) (hts _ q41) (fun _ h9 => h9) rfl hin rfl (by decide +kernel) rfl rfl (Nat.le_of_ble_eq_true rfl) dX1_init_33 (fun H locs hP hD hS => ?_)
  have hP : va_P D vwCl [(h0, .inr (0, [.int 0, .int 0, .ref q1, .ref q2, .int 0, .ref q3, .int 0, .ref q4, .null, .null, .null])), (q1, .inl (k1, 8, .inl (fun _ => 0))), (q2, .inl (k2, 8, .inl (fun _ => 0))), (q3, .inl (k3, 81, .inl (fun _ => 0))), (q4, .inl (k4, 12, .inl (fun _ => 0)))] H := hP
  have hD : va_D A [(h0, .inr (0, [.int 0, .int 0, .ref q1, .ref q2, .int 0, .ref q3, .int 0, .ref q4, .null, .null, .null])), (q1, .inl (k1, 8, .inl (fun _ => 0))), (q2, .inl (k2, 8, .inl (fun _ => 0))), (q3, .inl (k3, 81, .inl (fun _ => 0))), (q4, .inl (k4, 12, .inl (fun _ => 0)))] := hD
  refine lv_aload_n hx hb dX1_init_36 rfl (lv_at hl 0 rfl) ?_
  refine lv_bipush (v := 12) hx hb dX1_init_37 (by decide) ?_
  refine va_newa (a0 := (12, .inl (fun _ => 0))) (ty := .int) (atype := .int) hx hb (hts _ q69) rfl hK hP hD hS hA (fun _ => rfl) (by decide) (by decide) (by decide) (Nat.le_of_ble_eq_true rfl) (Nat.le_of_ble_eq_true rfl) dX1_init_39 (fun q5 k5 H hK hP hD hS => ?_)
  have hP : va_P D vwCl [(h0, .inr (0, [.int 0, .int 0, .ref q1, .ref q2, .int 0, .ref q3, .int 0, .ref q4, .null, .null, .null])), (q1, .inl (k1, 8, .inl (fun _ => 0))), (q2, .inl (k2, 8, .inl (fun _ => 0))), (q3, .inl (k3, 81, .inl (fun _ => 0))), (q4, .inl (k4, 12, .inl (fun _ => 0))), (q5, .inl (k5, 12, .inl (fun _ => 0)))] H := hP
  have hD : va_D A [(h0, .inr (0, [.int 0, .int 0, .ref q1, .ref q2, .int 0, .ref q3, .int 0, .ref q4, .null, .null, .null])), (q1, .inl (k1, 8, .inl (fun _ => 0))), (q2, .inl (k2, 8, .inl (fun _ => 0))), (q3, .inl (k3, 81, .inl (fun _ => 0))), (q4, .inl (k4, 12, .inl (fun _ => 0))), (q5, .inl (k5, 12, .inl (fun _ => 0)))] := hD
  have hK : va_K D vwCl [(k1, .byte), (k2, .byte), (k3, .int), (k4, .short), (k5, .int)] s := hK
  refine va_putF (D := D) (ci := 0) (v := .ref q5) (ty := .array .int) (C := RX1) (T := TX1) (N := 11) hx hb hts in_X1 tyX1 tyX1_ok nmX1 hown hK hP hD hS 0 rfl rfl 8 (by decide) (hts _ q42) (fun _ h9 => h9) rfl hin rfl (by decide +kernel) rfl rfl (Nat.le_of_ble_eq_true rfl) dX1_init_41 (fun H locs hP hD hS => ?_)
  have hP : va_P D vwCl [(h0, .inr (0, [.int 0, .int 0, .ref q1, .ref q2, .int 0, .ref q3, .int 0, .ref q4, .ref q5, .null, .null])), (q1, .inl (k1, 8, .inl (fun _ => 0))), (q2, .inl (k2, 8, .inl (fun _ => 0))), (q3, .inl (k3, 81, .inl (fun _ => 0))), (q4, .inl (k4, 12, .inl (fun _ => 0))), (q5, .inl (k5, 12, .inl (fun _ => 0)))] H := hP
  have hD : va_D A [(h0, .inr (0, [.int 0, .int 0, .ref q1, .ref q2, .int 0, .ref q3, .int 0, .ref q4, .ref q5, .null, .null])), (q1, .inl (k1, 8, .inl (fun _ => 0))), (q2, .inl (k2, 8, .inl (fun _ => 0))), (q3, .inl (k3, 81, .inl (fun _ => 0))), (q4, .inl (k4, 12, .inl (fun _ => 0))), (q5, .inl (k5, 12, .inl (fun _ => 0)))] := hD
  refine lv_aload_n hx hb dX1_init_44 rfl (lv_at hl 0 rfl) ?_
  refine lv_bipush (v := 12) hx hb dX1_init_45 (by decide) ?_
  refine va_newa (a0 := (12, .inl (fun _ => 0))) (ty := .byte) (atype := .byte) hx hb (hts _ q68) rfl hK hP hD hS hA (fun _ => rfl) (by decide) (by decide) (by decide) (Nat.le_of_ble_eq_true rfl) (Nat.le_of_ble_eq_true rfl) dX1_init_47 (fun q6 k6 H hK hP hD hS => ?_)
  have hP : va_P D vwCl [(h0, .inr (0, [.int 0, .int 0, .ref q1, .ref q2, .int 0, .ref q3, .int 0, .ref q4, .ref q5, .null, .null])), (q1, .inl (k1, 8, .inl (fun _ => 0))), (q2, .inl (k2, 8, .inl (fun _ => 0))), (q3, .inl (k3, 81, .inl (fun _ => 0))), (q4, .inl (k4, 12, .inl (fun _ => 0))), (q5, .inl (k5, 12, .inl (fun _ => 0))), (q6, .inl (k6, 12, .inl (fun _ => 0)))] H := hP
  have hD : va_D A [(h0, .inr (0, [.int 0, .int 0, .ref q1, .ref q2, .int 0, .ref q3, .int 0, .ref q4, .ref q5, .null, .null])), (q1, .inl (k1, 8, .inl (fun _ => 0))), (q2, .inl (k2, 8, .inl (fun _ => 0))), (q3, .inl (k3, 81, .inl (fun _ => 0))), (q4, .inl (k4, 12, .inl (fun _ => 0))), (q5, .inl (k5, 12, .inl (fun _ => 0))), (q6, .inl (k6, 12, .inl (fun _ => 0)))] := hD
  have hK : va_K D vwCl [(k1, .byte), (k2, .byte), (k3, .int), (k4, .short), (k5, .int), (k6, .byte)] s := hK
  refine va_putF (D := D) (ci := 0) (v := .ref q6) (ty := .array .byte) (C := RX1) (T := TX1) (N := 11) hx hb hts in_X1 tyX1 tyX1_ok nmX1 hown hK hP hD hS 0 rfl rfl 9 (by decide) (hts _ q43) (fun _ h9 => h9) rfl hin rfl (by decide +kernel) rfl rfl (Nat.le_of_ble_eq_true rfl) dX1_init_49 (fun H locs hP hD hS => ?_)
  have hP : va_P D vwCl [(h0, .inr (0, [.int 0, .int 0, .ref q1, .ref q2, .int 0, .ref q3, .int 0, .ref q4, .ref q5, .ref q6, .null])), (q1, .inl (k1, 8, .inl (fun _ => 0))), (q2, .inl (k2, 8, .inl (fun _ => 0))), (q3, .inl (k3, 81, .inl (fun _ => 0))), (q4, .inl (k4, 12, .inl (fun _ => 0))), (q5, .inl (k5, 12, .inl (fun _ => 0))), (q6, .inl (k6, 12, .inl (fun _ => 0)))] H := hP
  have hD : va_D A [(h0, .inr (0, [.int 0, .int 0, .ref q1, .ref q2, .int 0, .ref q3, .int 0, .ref q4, .ref q5, .ref q6, .null])), (q1, .inl (k1, 8, .inl (fun _ => 0))), (q2, .inl (k2, 8, .inl (fun _ => 0))), (q3, .inl (k3, 81, .inl (fun _ => 0))), (q4, .inl (k4, 12, .inl (fun _ => 0))), (q5, .inl (k5, 12, .inl (fun _ => 0))), (q6, .inl (k6, 12, .inl (fun _ => 0)))] := hD
  refine lv_aload_n hx hb dX1_init_52 rfl (lv_at hl 0 rfl) ?_
  refine lv_bipush (v := 12) hx hb dX1_init_53 (by decide) ?_
  refine va_newa (a0 := (12, .inl (fun _ => 0))) (ty := .byte) (atype := .byte) hx hb (hts _ q68) rfl hK hP hD hS hA (fun _ => rfl) (by decide) (by decide) (by decide) (Nat.le_of_ble_eq_true rfl) (Nat.le_of_ble_eq_true rfl) dX1_init_55 (fun q7 k7 H hK hP hD hS => ?_)
  have hP : va_P D vwCl [(h0, .inr (0, [.int 0, .int 0, .ref q1, .ref q2, .int 0, .ref q3, .int 0, .ref q4, .ref q5, .ref q6, .null])), (q1, .inl (k1, 8, .inl (fun _ => 0))), (q2, .inl (k2, 8, .inl (fun _ => 0))), (q3, .inl (k3, 81, .inl (fun _ => 0))), (q4, .inl (k4, 12, .inl (fun _ => 0))), (q5, .inl (k5, 12, .inl (fun _ => 0))), (q6, .inl (k6, 12, .inl (fun _ => 0))), (q7, .inl (k7, 12, .inl (fun _ => 0)))] H := hP
  have hD : va_D A [(h0, .inr (0, [.int 0, .int 0, .ref q1, .ref q2, .int 0, .ref q3, .int 0, .ref q4, .ref q5, .ref q6, .null])), (q1, .inl (k1, 8, .inl (fun _ => 0))), (q2, .inl (k2, 8, .inl (fun _ => 0))), (q3, .inl (k3, 81, .inl (fun _ => 0))), (q4, .inl (k4, 12, .inl (fun _ => 0))), (q5, .inl (k5, 12, .inl (fun _ => 0))), (q6, .inl (k6, 12, .inl (fun _ => 0))), (q7, .inl (k7, 12, .inl (fun _ => 0)))] := hD
  have hK : va_K D vwCl [(k1, .byte), (k2, .byte), (k3, .int), (k4, .short), (k5, .int), (k6, .byte), (k7, .byte)] s := hK
  refine va_putF (D := D) (ci := 0) (v := .ref q7) (ty := .array .byte) (C := RX1) (T := TX1) (N := 11) hx hb hts in_X1 tyX1 tyX1_ok nmX1 hown hK hP hD hS 0 rfl rfl 10 (by decide) (hts _ q44) (fun _ h9 => h9) rfl hin rfl (by decide +kernel) rfl rfl (Nat.le_of_ble_eq_true rfl) dX1_init_57 (fun H locs hP hD hS => ?_)
  have hP : va_P D vwCl [(h0, .inr (0, [.int 0, .int 0, .ref q1, .ref q2, .int 0, .ref q3, .int 0, .ref q4, .ref q5, .ref q6, .ref q7])), (q1, .inl (k1, 8, .inl (fun _ => 0))), (q2, .inl (k2, 8, .inl (fun _ => 0))), (q3, .inl (k3, 81, .inl (fun _ => 0))), (q4, .inl (k4, 12, .inl (fun _ => 0))), (q5, .inl (k5, 12, .inl (fun _ => 0))), (q6, .inl (k6, 12, .inl (fun _ => 0))), (q7, .inl (k7, 12, .inl (fun _ => 0)))] H := hP
  have hD : va_D A [(h0, .inr (0, [.int 0, .int 0, .ref q1, .ref q2, .int 0, .ref q3, .int 0, .ref q4, .ref q5, .ref q6, .ref q7])), (q1, .inl (k1, 8, .inl (fun _ => 0))), (q2, .inl (k2, 8, .inl (fun _ => 0))), (q3, .inl (k3, 81, .inl (fun _ => 0))), (q4, .inl (k4, 12, .inl (fun _ => 0))), (q5, .inl (k5, 12, .inl (fun _ => 0))), (q6, .inl (k6, 12, .inl (fun _ => 0))), (q7, .inl (k7, 12, .inl (fun _ => 0)))] := hD
  refine lv_aload_n hx hb dX1_init_60 rfl (lv_at hl 0 rfl) ?_
  refine lv_iload_n hx hb dX1_init_61 rfl (lv_at hl 1 rfl) ?_
  refine lv_iconst (v := 1) hx hb dX1_init_62 (by decide) ?_
  refine lv_icmp_ge (tgt := 70) hx hb dX1_init_63 (by decide) (fun c0 => ?_) (fun c0 => ?_)
  · refine lv_iload_n hx hb dX1_init_70 rfl (lv_at hl 1 rfl) ?_
    refine lv_bipush (v := 6) hx hb dX1_init_71 (by decide) ?_
    refine lv_icmp_le (tgt := 81) hx hb dX1_init_73 (by decide) (fun c1 => ?_) (fun c1 => ?_)
    · refine lv_iload_n hx hb dX1_init_81 rfl (lv_at hl 1 rfl) ?_
      refine lv_topi (fun v ev => ?_)
      have hv : v = gp_c32 x := by rw [ev]; unfold gp_c32; first | rw [if_pos c0, if_pos c1] | rw [if_pos c0, if_neg c1] | rw [if_neg c0]
      refine va_put (D := D) (ci := 0) (v := .int v) (ty := .int) (C := RX1) (T := TX1) (N := 11) hx hb hts in_X1 tyX1 tyX1_ok nmX1 hown hK hP hD hS 0 rfl rfl 0 (by decide) (hts _ q34) (fun _ h9 => h9) rfl (by decide +kernel) rfl rfl (Nat.le_of_ble_eq_true rfl) dX1_init_82 (fun H locs hP hD hS => ?_)
      refine W.widen (k := 7) (n := 145) (by decide) (by decide) ?_
      exact W.vret hx hb hr (fun t ht hW => ⟨⟨(fun i => match i with | 0 => h0 | 1 => q1 | 2 => q2 | 3 => q3 | 4 => q4 | 5 => q5 | 6 => q6 | _ => q7, fun i => match i with | 1 => k1 | 2 => k2 | 3 => k3 | 4 => k4 | 5 => k5 | 6 => k6 | _ => k7, (v, 0, (fun _ => 0), (fun _ => 0), 0, (fun _ => 0), 0, (fun _ => 0), (fun _ => 0), (fun _ => 0), (fun _ => 0))), rfl, ⟨rfl, ⟨_, _, 0, _, 0, _, _, _, _, by rw [hv, (gp_cl_eq x).1]; rfl, gE_nil _ _ _, Or.inl rfl, (gp_cl_eq x).2.2, (gp_cl_eq x).2.1, by decide⟩⟩, by rw [ht]; exact hP, va_K.moved hW.alike hK, hD⟩, hS.F ht⟩) hS.2.2 dX1_init_85
    · refine lv_bipush (v := 6) hx hb dX1_init_76 (by decide) ?_
      refine lv_goto (tgt := 82) hx hb dX1_init_78 (by decide) ?_
      refine lv_topi (fun v ev => ?_)
      have hv : v = gp_c32 x := by rw [ev]; unfold gp_c32; first | rw [if_pos c0, if_pos c1] | rw [if_pos c0, if_neg c1] | rw [if_neg c0]
      refine va_put (D := D) (ci := 0) (v := .int v) (ty := .int) (C := RX1) (T := TX1) (N := 11) hx hb hts in_X1 tyX1 tyX1_ok nmX1 hown hK hP hD hS 0 rfl rfl 0 (by decide) (hts _ q34) (fun _ h9 => h9) rfl (by decide +kernel) rfl rfl (Nat.le_of_ble_eq_true rfl) dX1_init_82 (fun H locs hP hD hS => ?_)
      refine W.widen (k := 7) (n := 145) (by decide) (by decide) ?_
      exact W.vret hx hb hr (fun t ht hW => ⟨⟨(fun i => match i with | 0 => h0 | 1 => q1 | 2 => q2 | 3 => q3 | 4 => q4 | 5 => q5 | 6 => q6 | _ => q7, fun i => match i with | 1 => k1 | 2 => k2 | 3 => k3 | 4 => k4 | 5 => k5 | 6 => k6 | _ => k7, (v, 0, (fun _ => 0), (fun _ => 0), 0, (fun _ => 0), 0, (fun _ => 0), (fun _ => 0), (fun _ => 0), (fun _ => 0))), rfl, ⟨rfl, ⟨_, _, 0, _, 0, _, _, _, _, by rw [hv, (gp_cl_eq x).1]; rfl, gE_nil _ _ _, Or.inl rfl, (gp_cl_eq x).2.2, (gp_cl_eq x).2.1, by decide⟩⟩, by rw [ht]; exact hP, va_K.moved hW.alike hK, hD⟩, hS.F ht⟩) hS.2.2 dX1_init_85
  · refine lv_iconst (v := 1) hx hb dX1_init_66 (by decide) ?_
    refine lv_goto (tgt := 82) hx hb dX1_init_67 (by decide) ?_
    refine lv_topi (fun v ev => ?_)
    have hv : v = gp_c32 x := by rw [ev]; unfold gp_c32; first | rw [if_pos c0, if_pos c1] | rw [if_pos c0, if_neg c1] | rw [if_neg c0]
    refine va_put (D := D) (ci := 0) (v := .int v) (ty := .int) (C := RX1) (T := TX1) (N := 11) hx hb hts in_X1 tyX1 tyX1_ok nmX1 hown hK hP hD hS 0 rfl rfl 0 (by decide) (hts _ q34) (fun _ h9 => h9) rfl (by decide +kernel) rfl rfl (Nat.le_of_ble_eq_true rfl) dX1_init_82 (fun H locs hP hD hS => ?_)
    refine W.widen (k := 7) (n := 145) (by decide) (by decide) ?_
    exact W.vret hx hb hr (fun t ht hW => ⟨⟨(fun i => match i with | 0 => h0 | 1 => q1 | 2 => q2 | 3 => q3 | 4 => q4 | 5 => q5 | 6 => q6 | _ => q7, fun i => match i with | 1 => k1 | 2 => k2 | 3 => k3 | 4 => k4 | 5 => k5 | 6 => k6 | _ => k7, (v, 0, (fun _ => 0), (fun _ => 0), 0, (fun _ => 0), 0, (fun _ => 0), (fun _ => 0), (fun _ => 0), (fun _ => 0))), rfl, ⟨rfl, ⟨_, _, 0, _, 0, _, _, _, _, by rw [hv, (gp_cl_eq x).1]; rfl, gE_nil _ _ _, Or.inl rfl, (gp_cl_eq x).2.2, (gp_cl_eq x).2.1, by decide⟩⟩, by rw [ht]; exact hP, va_K.moved hW.alike hK, hD⟩, hS.F ht⟩) hS.2.2 dX1_init_85
set_option maxHeartbeats 4000000 in
theorem metX2_init (l : Launch) (D : va_G) (h0 sz : Nat) (x : Int32) : Met l yX2_init (ws_ yX2_init cX2_init 2 none) ({ frames := 1, cells := 5, slots := 111, locals := 12 }) (va_Pc [.ref h0, .int x] (fun U => U.heap.size = sz ∧ va_P D vwCl [(h0, .inr (1, [.int 0, .int 0, .null, .null, .null, .null, .null]))] U.heap ∧ va_K D vwCl [] U ∧ va_D (fun _ => True) [(h0, .inr (1, [.int 0, .int 0, .null, .null, .null, .null, .null]))])) (va_Qv (fun u : (Nat → Nat) × (Nat → ClassId) × S2 => u.1 0 = h0 ∧ G2 (gp_cl x) [] u.2.2) (fun u t => va_P D vwCl (w2 u.1 u.2.1 u.2.2) t.heap ∧ va_K D vwCl (t2 u.2.1) t ∧ va_D (va_A [(h0, .inr (1, [.int 0, .int 0, .null, .null, .null, .null, .null]))] sz) (w2 u.1 u.2.1 u.2.2)) (va_A [(h0, .inr (1, [.int 0, .int 0, .null, .null, .null, .null, .null]))] sz)) 5 111 (va_A [(h0, .inr (1, [.int 0, .int 0, .null, .null, .null, .null, .null]))] sz) := by
  refine Met.ofW (cc := cX2_init) (maxL := 2) (ret := none) (by decide +kernel) rfl ?_
  intro p e s m args below meth c s₁ B hml hv
  obtain ⟨rfl, hsz, hP, hK, hD0⟩ := hv
  have hx := B.exec
  have hb := B.bytes
  have hr := B.returns
  have hts := atoms_spec (ws := ws_ yX2_init cX2_init 2 none) B.pre
  have hts : ∀ w ∈ lw_all, w.before _ s = true := fun w h => hts w (List.mem_cons_of_mem _ h)
  have hown : s.vm.findClass RX2 = some m.cls := findClass_of_methodNamed B.named
  have hlocks := B.notSynchronized
  have hin : meth.name = "<init>" := (name_of_methodNamed B.named B.method).1
  subst hsz
  have hD := hD0.self (sz := s.heap.size)
  generalize hAe : va_A [(h0, .inr (1, [.int 0, .int 0, .null, .null, .null, .null, .null]))] s.heap.size = A at hD ⊢
  have hA : ∀ q : Nat, s.heap.size ≤ q → A q := fun q h => by rw [← hAe]; exact Or.inr h
  have hS : va_S A s.heap s.heap [] := va_S.rf
  have hl := lv_entry ([.ref h0, .int x]) (n := 2) (Nat.le_of_ble_eq_true rfl)
  rw [lg_entry_eq]
  generalize (lg_sl ([.ref h0, .int x]) ++ List.replicate (2 - (lg_sl ([.ref h0, .int x])).length) Slot.unset).toArray = ls at hl ⊢
  have hl : lv_has ls 2 [(0, .ref h0), (1, .int x)] := hl
  refine lv_aload_n hx hb dX2_init_0 rfl (lv_at hl 0 rfl) ?_
  refine W.objInit hx hb hown (hts _ q161) (hts _ q32) (hts _ q33) rfl (by rw [hml]; exact hl.1) rfl dX2_init_1 (Nat.le_of_ble_eq_true rfl) (Nat.le_of_ble_eq_true rfl) ?_
  refine W.eq (g2 := F0 m 4 ls []) rfl ?_
  refine lv_aload_n hx hb dX2_init_4 rfl (lv_at hl 0 rfl) ?_
  refine lv_iconst (v := 0) hx hb dX2_init_5 (by decide) ?_
  refine va_put (D := D) (ci := 1) (v := .int 0) (ty := .int) (C := RX2) (T := TX2) (N := 7) hx hb hts in_X2 tyX2 tyX2_ok nmX2 hown hK hP hD hS 0 rfl rfl 1 (by decide) (hts _ q163) (fun _ h9 => h9) rfl (by decide +kernel) rfl rfl (Nat.le_of_ble_eq_true rfl) dX2_init_6 (fun H locs hP hD hS => ?_)
  have hP : va_P D vwCl [(h0, .inr (1, [.int 0, .int 0, .null, .null, .null, .null, .null]))] H := hP
  have hD : va_D A [(h0, .inr (1, [.int 0, .int 0, .null, .null, .null, .null, .null]))] := hD
  refine lv_aload_n hx hb dX2_init_9 rfl (lv_at hl 0 rfl) ?_
  refine lv_bipush (v := 9) hx hb dX2_init_10 (by decide) ?_
  refine va_newa (a0 := (9, .inl (fun _ => 0))) (ty := .int) (atype := .int) hx hb (hts _ q69) rfl hK hP hD hS hA (fun _ => rfl) (by decide) (by decide) (by decide) (Nat.le_of_ble_eq_true rfl) (Nat.le_of_ble_eq_true rfl) dX2_init_12 (fun q1 k1 H hK hP hD hS => ?_)
  have hP : va_P D vwCl [(h0, .inr (1, [.int 0, .int 0, .null, .null, .null, .null, .null])), (q1, .inl (k1, 9, .inl (fun _ => 0)))] H := hP
  have hD : va_D A [(h0, .inr (1, [.int 0, .int 0, .null, .null, .null, .null, .null])), (q1, .inl (k1, 9, .inl (fun _ => 0)))] := hD
  have hK : va_K D vwCl [(k1, .int)] s := hK
  refine va_put (D := D) (ci := 1) (v := .ref q1) (ty := .array .int) (C := RX2) (T := TX2) (N := 7) hx hb hts in_X2 tyX2 tyX2_ok nmX2 hown hK hP hD hS 0 rfl rfl 2 (by decide) (hts _ q164) (fun _ h9 => h9) rfl (by decide +kernel) rfl rfl (Nat.le_of_ble_eq_true rfl) dX2_init_14 (fun H locs hP hD hS => ?_)
  have hP : va_P D vwCl [(h0, .inr (1, [.int 0, .int 0, .ref q1, .null, .null, .null, .null])), (q1, .inl (k1, 9, .inl (fun _ => 0)))] H := hP
  have hD : va_D A [(h0, .inr (1, [.int 0, .int 0, .ref q1, .null, .null, .null, .null])), (q1, .inl (k1, 9, .inl (fun _ => 0)))] := hD
  refine lv_aload_n hx hb dX2_init_17 rfl (lv_at hl 0 rfl) ?_
  refine lv_bipush (v := 9) hx hb dX2_init_18 (by decide) ?_
  refine va_newa (a0 := (9, .inl (fun _ => 0))) (ty := .int) (atype := .int) hx hb (hts _ q69) rfl hK hP hD hS hA (fun _ => rfl) (by decide) (by decide) (by decide) (Nat.le_of_ble_eq_true rfl) (Nat.le_of_ble_eq_true rfl) dX2_init_20 (fun q2 k2 H hK hP hD hS => ?_)
  have hP : va_P D vwCl [(h0, .inr (1, [.int 0, .int 0, .ref q1, .null, .null, .null, .null])), (q1, .inl (k1, 9, .inl (fun _ => 0))), (q2, .inl (k2, 9, .inl (fun _ => 0)))] H := hP
  have hD : va_D A [(h0, .inr (1, [.int 0, .int 0, .ref q1, .null, .null, .null, .null])), (q1, .inl (k1, 9, .inl (fun _ => 0))), (q2, .inl (k2, 9, .inl (fun _ => 0)))] := hD
  have hK : va_K D vwCl [(k1, .int), (k2, .int)] s := hK
  refine va_put (D := D) (ci := 1) (v := .ref q2) (ty := .array .int) (C := RX2) (T := TX2) (N := 7) hx hb hts in_X2 tyX2 tyX2_ok nmX2 hown hK hP hD hS 0 rfl rfl 3 (by decide) (hts _ q165) (fun _ h9 => h9) rfl (by decide +kernel) rfl rfl (Nat.le_of_ble_eq_true rfl) dX2_init_22 (fun H locs hP hD hS => ?_)
  have hP : va_P D vwCl [(h0, .inr (1, [.int 0, .int 0, .ref q1, .ref q2, .null, .null, .null])), (q1, .inl (k1, 9, .inl (fun _ => 0))), (q2, .inl (k2, 9, .inl (fun _ => 0)))] H := hP
  have hD : va_D A [(h0, .inr (1, [.int 0, .int 0, .ref q1, .ref q2, .null, .null, .null])), (q1, .inl (k1, 9, .inl (fun _ => 0))), (q2, .inl (k2, 9, .inl (fun _ => 0)))] := hD
  refine lv_aload_n hx hb dX2_init_25 rfl (lv_at hl 0 rfl) ?_
  refine lv_bipush (v := 6) hx hb dX2_init_26 (by decide) ?_
  refine va_newa (a0 := (6, .inl (fun _ => 0))) (ty := .int) (atype := .int) hx hb (hts _ q69) rfl hK hP hD hS hA (fun _ => rfl) (by decide) (by decide) (by decide) (Nat.le_of_ble_eq_true rfl) (Nat.le_of_ble_eq_true rfl) dX2_init_28 (fun q3 k3 H hK hP hD hS => ?_)
  have hP : va_P D vwCl [(h0, .inr (1, [.int 0, .int 0, .ref q1, .ref q2, .null, .null, .null])), (q1, .inl (k1, 9, .inl (fun _ => 0))), (q2, .inl (k2, 9, .inl (fun _ => 0))), (q3, .inl (k3, 6, .inl (fun _ => 0)))] H := hP
  have hD : va_D A [(h0, .inr (1, [.int 0, .int 0, .ref q1, .ref q2, .null, .null, .null])), (q1, .inl (k1, 9, .inl (fun _ => 0))), (q2, .inl (k2, 9, .inl (fun _ => 0))), (q3, .inl (k3, 6, .inl (fun _ => 0)))] := hD
  have hK : va_K D vwCl [(k1, .int), (k2, .int), (k3, .int)] s := hK
  refine va_put (D := D) (ci := 1) (v := .ref q3) (ty := .array .int) (C := RX2) (T := TX2) (N := 7) hx hb hts in_X2 tyX2 tyX2_ok nmX2 hown hK hP hD hS 0 rfl rfl 4 (by decide) (hts _ q166) (fun _ h9 => h9) rfl (by decide +kernel) rfl rfl (Nat.le_of_ble_eq_true rfl) dX2_init_30 (fun H locs hP hD hS => ?_)
  have hP : va_P D vwCl [(h0, .inr (1, [.int 0, .int 0, .ref q1, .ref q2, .ref q3, .null, .null])), (q1, .inl (k1, 9, .inl (fun _ => 0))), (q2, .inl (k2, 9, .inl (fun _ => 0))), (q3, .inl (k3, 6, .inl (fun _ => 0)))] H := hP
  have hD : va_D A [(h0, .inr (1, [.int 0, .int 0, .ref q1, .ref q2, .ref q3, .null, .null])), (q1, .inl (k1, 9, .inl (fun _ => 0))), (q2, .inl (k2, 9, .inl (fun _ => 0))), (q3, .inl (k3, 6, .inl (fun _ => 0)))] := hD
  refine lv_aload_n hx hb dX2_init_33 rfl (lv_at hl 0 rfl) ?_
  refine lv_bipush (v := 6) hx hb dX2_init_34 (by decide) ?_
  refine va_newa (a0 := (6, .inl (fun _ => 0))) (ty := .int) (atype := .int) hx hb (hts _ q69) rfl hK hP hD hS hA (fun _ => rfl) (by decide) (by decide) (by decide) (Nat.le_of_ble_eq_true rfl) (Nat.le_of_ble_eq_true rfl) dX2_init_36 (fun q4 k4 H hK hP hD hS => ?_)
  have hP : va_P D vwCl [(h0, .inr (1, [.int 0, .int 0, .ref q1, .ref q2, .ref q3, .null, .null])), (q1, .inl (k1, 9, .inl (fun _ => 0))), (q2, .inl (k2, 9, .inl (fun _ => 0))), (q3, .inl (k3, 6, .inl (fun _ => 0))), (q4, .inl (k4, 6, .inl (fun _ => 0)))] H := hP
  have hD : va_D A [(h0, .inr (1, [.int 0, .int 0, .ref q1, .ref q2, .ref q3, .null, .null])), (q1, .inl (k1, 9, .inl (fun _ => 0))), (q2, .inl (k2, 9, .inl (fun _ => 0))), (q3, .inl (k3, 6, .inl (fun _ => 0))), (q4, .inl (k4, 6, .inl (fun _ => 0)))] := hD
  have hK : va_K D vwCl [(k1, .int), (k2, .int), (k3, .int), (k4, .int)] s := hK
  refine va_put (D := D) (ci := 1) (v := .ref q4) (ty := .array .int) (C := RX2) (T := TX2) (N := 7) hx hb hts in_X2 tyX2 tyX2_ok nmX2 hown hK hP hD hS 0 rfl rfl 5 (by decide) (hts _ q167) (fun _ h9 => h9) rfl (by decide +kernel) rfl rfl (Nat.le_of_ble_eq_true rfl) dX2_init_38 (fun H locs hP hD hS => ?_)
  have hP : va_P D vwCl [(h0, .inr (1, [.int 0, .int 0, .ref q1, .ref q2, .ref q3, .ref q4, .null])), (q1, .inl (k1, 9, .inl (fun _ => 0))), (q2, .inl (k2, 9, .inl (fun _ => 0))), (q3, .inl (k3, 6, .inl (fun _ => 0))), (q4, .inl (k4, 6, .inl (fun _ => 0)))] H := hP
  have hD : va_D A [(h0, .inr (1, [.int 0, .int 0, .ref q1, .ref q2, .ref q3, .ref q4, .null])), (q1, .inl (k1, 9, .inl (fun _ => 0))), (q2, .inl (k2, 9, .inl (fun _ => 0))), (q3, .inl (k3, 6, .inl (fun _ => 0))), (q4, .inl (k4, 6, .inl (fun _ => 0)))] := hD
  refine lv_aload_n hx hb dX2_init_41 rfl (lv_at hl 0 rfl) ?_
  refine lv_bipush (v := 81) hx hb dX2_init_42 (by decide) ?_
  refine va_newa (a0 := (81, .inr (.inl (fun _ => 0)))) (ty := .long) (atype := .long) hx hb (hts _ q184) rfl hK hP hD hS hA (fun _ => rfl) (by decide) (by decide) (by decide) (Nat.le_of_ble_eq_true rfl) (Nat.le_of_ble_eq_true rfl) dX2_init_44 (fun q5 k5 H hK hP hD hS => ?_)
  have hP : va_P D vwCl [(h0, .inr (1, [.int 0, .int 0, .ref q1, .ref q2, .ref q3, .ref q4, .null])), (q1, .inl (k1, 9, .inl (fun _ => 0))), (q2, .inl (k2, 9, .inl (fun _ => 0))), (q3, .inl (k3, 6, .inl (fun _ => 0))), (q4, .inl (k4, 6, .inl (fun _ => 0))), (q5, .inl (k5, 81, .inr (.inl (fun _ => 0))))] H := hP
  have hD : va_D A [(h0, .inr (1, [.int 0, .int 0, .ref q1, .ref q2, .ref q3, .ref q4, .null])), (q1, .inl (k1, 9, .inl (fun _ => 0))), (q2, .inl (k2, 9, .inl (fun _ => 0))), (q3, .inl (k3, 6, .inl (fun _ => 0))), (q4, .inl (k4, 6, .inl (fun _ => 0))), (q5, .inl (k5, 81, .inr (.inl (fun _ => 0))))] := hD
  have hK : va_K D vwCl [(k1, .int), (k2, .int), (k3, .int), (k4, .int), (k5, .long)] s := hK
  refine va_put (D := D) (ci := 1) (v := .ref q5) (ty := .array .long) (C := RX2) (T := TX2) (N := 7) hx hb hts in_X2 tyX2 tyX2_ok nmX2 hown hK hP hD hS 0 rfl rfl 6 (by decide) (hts _ q168) (fun _ h9 => h9) rfl (by decide +kernel) rfl rfl (Nat.le_of_ble_eq_true rfl) dX2_init_46 (fun H locs hP hD hS => ?_)
  have hP : va_P D vwCl [(h0, .inr (1, [.int 0, .int 0, .ref q1, .ref q2, .ref q3, .ref q4, .ref q5])), (q1, .inl (k1, 9, .inl (fun _ => 0))), (q2, .inl (k2, 9, .inl (fun _ => 0))), (q3, .inl (k3, 6, .inl (fun _ => 0))), (q4, .inl (k4, 6, .inl (fun _ => 0))), (q5, .inl (k5, 81, .inr (.inl (fun _ => 0))))] H := hP
  have hD : va_D A [(h0, .inr (1, [.int 0, .int 0, .ref q1, .ref q2, .ref q3, .ref q4, .ref q5])), (q1, .inl (k1, 9, .inl (fun _ => 0))), (q2, .inl (k2, 9, .inl (fun _ => 0))), (q3, .inl (k3, 6, .inl (fun _ => 0))), (q4, .inl (k4, 6, .inl (fun _ => 0))), (q5, .inl (k5, 81, .inr (.inl (fun _ => 0))))] := hD
  refine lv_aload_n hx hb dX2_init_49 rfl (lv_at hl 0 rfl) ?_
  refine lv_iload_n hx hb dX2_init_50 rfl (lv_at hl 1 rfl) ?_
  refine lv_iconst (v := 1) hx hb dX2_init_51 (by decide) ?_
  refine lv_icmp_ge (tgt := 59) hx hb dX2_init_52 (by decide) (fun c0 => ?_) (fun c0 => ?_)
  · refine lv_iload_n hx hb dX2_init_59 rfl (lv_at hl 1 rfl) ?_
    refine lv_bipush (v := 6) hx hb dX2_init_60 (by decide) ?_
    refine lv_icmp_le (tgt := 70) hx hb dX2_init_62 (by decide) (fun c1 => ?_) (fun c1 => ?_)
    · refine lv_iload_n hx hb dX2_init_70 rfl (lv_at hl 1 rfl) ?_
      refine lv_topi (fun v ev => ?_)
      have hv : v = gp_c32 x := by rw [ev]; unfold gp_c32; first | rw [if_pos c0, if_pos c1] | rw [if_pos c0, if_neg c1] | rw [if_neg c0]
      refine va_put (D := D) (ci := 1) (v := .int v) (ty := .int) (C := RX2) (T := TX2) (N := 7) hx hb hts in_X2 tyX2 tyX2_ok nmX2 hown hK hP hD hS 0 rfl rfl 0 (by decide) (hts _ q162) (fun _ h9 => h9) rfl (by decide +kernel) rfl rfl (Nat.le_of_ble_eq_true rfl) dX2_init_71 (fun H locs hP hD hS => ?_)
      refine W.widen (k := 5) (n := 111) (by decide) (by decide) ?_
      exact W.vret hx hb hr (fun t ht hW => ⟨⟨(fun i => match i with | 0 => h0 | 1 => q1 | 2 => q2 | 3 => q3 | 4 => q4 | _ => q5, fun i => match i with | 1 => k1 | 2 => k2 | 3 => k3 | 4 => k4 | _ => k5, (v, 0, (fun _ => 0), (fun _ => 0), (fun _ => 0), (fun _ => 0), (fun _ => 0))), rfl, ⟨rfl, ⟨_, _, _, _, _, by rw [hv, (gp_cl_eq x).1]; rfl, gE_nil _ _ _, (gp_cl_eq x).2.2, (gp_cl_eq x).2.1, by decide⟩⟩, by rw [ht]; exact hP, va_K.moved hW.alike hK, hD⟩, hS.F ht⟩) hS.2.2 dX2_init_74
    · refine lv_bipush (v := 6) hx hb dX2_init_65 (by decide) ?_
      refine lv_goto (tgt := 71) hx hb dX2_init_67 (by decide) ?_
      refine lv_topi (fun v ev => ?_)
      have hv : v = gp_c32 x := by rw [ev]; unfold gp_c32; first | rw [if_pos c0, if_pos c1] | rw [if_pos c0, if_neg c1] | rw [if_neg c0]
      refine va_put (D := D) (ci := 1) (v := .int v) (ty := .int) (C := RX2) (T := TX2) (N := 7) hx hb hts in_X2 tyX2 tyX2_ok nmX2 hown hK hP hD hS 0 rfl rfl 0 (by decide) (hts _ q162) (fun _ h9 => h9) rfl (by decide +kernel) rfl rfl (Nat.le_of_ble_eq_true rfl) dX2_init_71 (fun H locs hP hD hS => ?_)
      refine W.widen (k := 5) (n := 111) (by decide) (by decide) ?_
      exact W.vret hx hb hr (fun t ht hW => ⟨⟨(fun i => match i with | 0 => h0 | 1 => q1 | 2 => q2 | 3 => q3 | 4 => q4 | _ => q5, fun i => match i with | 1 => k1 | 2 => k2 | 3 => k3 | 4 => k4 | _ => k5, (v, 0, (fun _ => 0), (fun _ => 0), (fun _ => 0), (fun _ => 0), (fun _ => 0))), rfl, ⟨rfl, ⟨_, _, _, _, _, by rw [hv, (gp_cl_eq x).1]; rfl, gE_nil _ _ _, (gp_cl_eq x).2.2, (gp_cl_eq x).2.1, by decide⟩⟩, by rw [ht]; exact hP, va_K.moved hW.alike hK, hD⟩, hS.F ht⟩) hS.2.2 dX2_init_74
  · refine lv_iconst (v := 1) hx hb dX2_init_55 (by decide) ?_
    refine lv_goto (tgt := 71) hx hb dX2_init_56 (by decide) ?_
    refine lv_topi (fun v ev => ?_)
    have hv : v = gp_c32 x := by rw [ev]; unfold gp_c32; first | rw [if_pos c0, if_pos c1] | rw [if_pos c0, if_neg c1] | rw [if_neg c0]
    refine va_put (D := D) (ci := 1) (v := .int v) (ty := .int) (C := RX2) (T := TX2) (N := 7) hx hb hts in_X2 tyX2 tyX2_ok nmX2 hown hK hP hD hS 0 rfl rfl 0 (by decide) (hts _ q162) (fun _ h9 => h9) rfl (by decide +kernel) rfl rfl (Nat.le_of_ble_eq_true rfl) dX2_init_71 (fun H locs hP hD hS => ?_)
    refine W.widen (k := 5) (n := 111) (by decide) (by decide) ?_
    exact W.vret hx hb hr (fun t ht hW => ⟨⟨(fun i => match i with | 0 => h0 | 1 => q1 | 2 => q2 | 3 => q3 | 4 => q4 | _ => q5, fun i => match i with | 1 => k1 | 2 => k2 | 3 => k3 | 4 => k4 | _ => k5, (v, 0, (fun _ => 0), (fun _ => 0), (fun _ => 0), (fun _ => 0), (fun _ => 0))), rfl, ⟨rfl, ⟨_, _, _, _, _, by rw [hv, (gp_cl_eq x).1]; rfl, gE_nil _ _ _, (gp_cl_eq x).2.2, (gp_cl_eq x).2.1, by decide⟩⟩, by rw [ht]; exact hP, va_K.moved hW.alike hK, hD⟩, hS.F ht⟩) hS.2.2 dX2_init_74
end
section
set_option maxRecDepth 100000
/-! THE CLAIM OUT OF ONE WALK OF THE LAW'S BODY. Your part is whole_start (and what it stands on); all else here is the same for every law, but numbers. -/
def R_law : String := "GraphPolynomialsLaw"
def lw_P (b : Addr) (xs : List Int32) (args : Array Value) (s : State) : Prop := args = #[.ref b] ∧ s.IntsAt b xs ∧ xs.length ≤ 193 ∧ (Jvm.Cond.and given_1 narrow_1).before args s = true
def lw_Q (_ : Array Value) (s : State) (o : Outcome) (t : State) : Prop := o = .returned (some (.int 1)) ∧ Framed s o t [] 600000 7290000
def lw_Z (below : List Frame) (a : Array Value) (s : State) : State → Prop := fun t => ∃ o, t.status = .running ∧ Ended t below o ∧ lw_Q a s o t
/-- the law's own end, with 1 on the stack, nothing written that was there before, its room as the claim has it -/
theorem lw_ret {p : Program} {l : Launch} {e : Env} {s : State} {m : MethodId} {below : List Frame} {meth : Method} {c : Code} {b : Nat} (hx : p.tables.exec = Jvm.exec) (hb : c.code = code) (hr : meth.sig.returnType = ret) (hlocks : meth.locks = false) {pc : Nat} {H : Heap} {ls : Array Slot} (hdg : decode code pc = .ok (.ireturn, 1)) : W p l e room_1 s m #[Value.ref b] below meth c H [] 600000 7290000 (lw_Z below #[Value.ref b] s) (F0 m pc ls [.int 1]) := by
  intro T hT X
  obtain ⟨fs, hret, hrun, hended, hW, hframe⟩ := X.leave (v := some (.int 1)) (hlocks := hlocks) (fun h => by rw [hr] at h; cases h)
  have hmeth' : T.vm.method? m = some meth := X.method'
  refine ⟨T.setFrames fs, ?_, .returned (some (.int 1)), hrun, hended, rfl, ⟨_, rfl⟩, hW, hframe⟩
  jvm_step X.here [X.here.top, hx, hb, hdg, hmeth', hr, ret, narrow_b1]
  (try refine ⟨rfl, ?_⟩); (try refine ⟨rfl, ?_⟩)
  first | (intro acts; rw [hret _ acts rfl rfl rfl]) | rw [hret _ _ rfl rfl rfl]
  exact Steps.refl _
/-- what holds at the law's entry: the machine, the code, the tables' words (any of lw_tbl by 'hts w (by decide +kernel)'), the script of L ints xs at the cell b, what the Statement gives of the start (any of its parts by flat_of_before) -/
def lw_At (p : Program) (s : State) (m : MethodId) (meth : Method) (c : Code) (b L : Nat) (xs : Nat → Int32) : Prop :=
  p.tables.exec = Jvm.exec ∧ c.code = code ∧ meth.sig.returnType = ret ∧ c.maxLocals = 4 ∧ s.vm.findClass R_law = some m.cls ∧ (∀ w ∈ lw_tbl, w.before #[Value.ref b] s = true) ∧ va_X b L xs s s.heap ∧ b < s.heap.size ∧ meth.locks = false ∧ (Jvm.Cond.and given_1 narrow_1).before #[Value.ref b] s = true
end
section
set_option maxRecDepth 100000
/-! THE LAW's own rows: the script, the switch, calls of the two objects that stand side by side -/
def Scr (X : gx_C) (b L : Nat) (xs : Nat → Int32) : Prop := match X with
  | (_, _, _, _, s, _, _, _, _, _, _, _, A, _, _, _) => va_X b L xs s s.heap ∧ b < s.heap.size ∧ ¬ A b ∧ L ≤ 193
section LW
variable {X : gx_C} {cc : ByteArray} {own : String} {tys : List (ClassId × FieldType)} {fr lo : Nat} {ws ws' : va_W} {lv lv' : List (Option Value)} {pc : Nat} {st : List Value} {b L : Nat} {xs : Nat → Int32}
theorem x_sld {j : Nat} (h : Ok X cc own tys fr lo) (hs : Scr X b L xs) (hd : decode cc pc = .ok (.iaload, 1)) (hj : j < L) (k : JJ X ws lv (pc + 1) (.int (xs j) :: st)) : JJ X ws lv pc (.int (nI j) :: .ref b :: st) := by
  obtain ⟨p, l, e, R, s, m, args, below, meth, c, Q, D, A, nL, cells, slots⟩ := X
  obtain ⟨hX, hbl, hbA, hL⟩ := hs
  exact fun H locs ls hP hD hS hl => va_sld h.1 h.2.1 hX hbl hbA hS (vp_in_nI hj (by omega)) hd (by rw [nI_clamp (by omega)]; exact k H locs ls hP hD hS hl)
theorem x_slen (h : Ok X cc own tys fr lo) (hs : Scr X b L xs) (hd : decode cc pc = .ok (.arraylength, 1)) (k : JJ X ws lv (pc + 1) (.int (nI L) :: st)) : JJ X ws lv pc (.ref b :: st) := by
  obtain ⟨p, l, e, R, s, m, args, below, meth, c, Q, D, A, nL, cells, slots⟩ := X
  obtain ⟨hX, hbl, hbA, hL⟩ := hs
  exact fun H locs ls hP hD hS hl => va_slen h.1 h.2.1 hX hbl hbA hS hd (k H locs ls hP hD hS hl)
theorem x_tabIn {dflt lo0 hi off : Int} {offs : Array Int} {len : Nat} {j : Nat} (tgt : Nat) (h : Ok X cc own tys fr lo) (hd : decode cc pc = .ok (.tableswitch dflt lo0 hi offs, len)) (hj : j < 2147483648) (h1 : ¬ (j : Int) < lo0) (h2 : ¬ hi < (j : Int)) (ho : offs[((j : Int) - lo0).toNat]? = some off) (ht : (pc : Int) + off = (tgt : Int)) (k : JJ X ws lv tgt st) : JJ X ws lv pc (.int (nI j) :: st) := by
  obtain ⟨p, l, e, R, s, m, args, below, meth, c, Q, D, A, nL, cells, slots⟩ := X
  have ej : (nI j).toInt = (j : Int) := nI_toInt hj
  exact fun H locs ls hP hD hS hl => lv_tableIn h.1 h.2.1 hd (by rw [ej]; exact h1) (by rw [ej]; exact h2) (by rw [ej]; exact ho) ht (k H locs ls hP hD hS hl)
theorem x_tabOut {dflt lo0 hi : Int} {offs : Array Int} {len : Nat} {j : Nat} (tgt : Nat) (h : Ok X cc own tys fr lo) (hd : decode cc pc = .ok (.tableswitch dflt lo0 hi offs, len)) (hj : j < 2147483648) (h1 : (j : Int) < lo0 ∨ hi < (j : Int)) (ht : (pc : Int) + dflt = (tgt : Int)) (k : JJ X ws lv tgt st) : JJ X ws lv pc (.int (nI j) :: st) := by
  obtain ⟨p, l, e, R, s, m, args, below, meth, c, Q, D, A, nL, cells, slots⟩ := X
  have ej : (nI j).toInt = (j : Int) := nI_toInt hj
  exact fun H locs ls hP hD hS hl => lv_tableOut h.1 h.2.1 hd (by rw [ej]; exact h1) ht (k H locs ls hP hD hS hl)
theorem ic3_4_3 {x0 x1 x2 : Option Value} {v : Nat} (h : Ok X cc own tys fr lo) (hd : decode cc pc = .ok (.iinc 3 3, 3)) (hp : lx_c1 x2 = true) (k : JJ X ws [x0, x1, x2, some (.int (nI (v + 3)))] (pc + 3) st) : JJ X ws [x0, x1, x2, some (.int (nI v))] pc st := x_iinc h hd rfl (nI_add v 3) (Or.inr hp) rfl k
end LW
section LC
variable {X : gx_C} {cc : ByteArray} {own : String} {fr lo fr2 lo2 nL2 idx pc : Nat} {lv : List (Option Value)} {st rest : List Value} {a b : Nat → Nat} {d g : Nat → ClassId} {y : MethodName} {cb : ByteArray} {rty : FieldType} {av : List Value}
theorem x_callL1 {u : S1} {v : S2} {post : Int32 → S1 → Prop} (h : Ok X cc own (t1 d ++ t2 g) fr lo) (hM : Mi w1 t1 y cb nL2 rty fr2 lo2 av u post) (hd : decode cc pc = .ok (.invokevirtual idx, 3)) (hG : GoodIn lw_all (wsV own idx RX1 y (ws_ y cb nL2 (some rty))))
    (hy : y.cls = RX1 ∧ y.cls ≠ "java/lang/invoke/MethodHandle" ∧ y.cls ≠ "java/lang/invoke/VarHandle" ∧ (parseMethodDescriptor y.desc).map (fun q => q.parameters.length) = some av.length) (hfr : fr2 + 1 ≤ fr) (hlo : 8 + (nL2 + 11) + lo2 ≤ lo) (hst : (rest.map fun v => v.category).sum ≤ 8) (hs : st = av.reverse ++ .ref (a 0) :: rest)
    (k : ∀ (r : Int32) (u' : S1), post r u' → JJ X (w1 a d u' ++ w2 b g v) lv (pc + 3) (.int r :: rest)) : JJ X (w1 a d u ++ w2 b g v) lv pc st := by
  subst hs
  obtain ⟨p, l, e, R, s, m, args, below, meth, c, Q, D, A, nL, cells, slots⟩ := X
  intro H locs ls hP hD hS hl
  obtain ⟨hx, hb, hml, hown, hts, hK, hA, hRf, hRl, hRc, hRs⟩ := h
  have hPc := hP.sub (ws' := w1 a d u) [0, 1, 2, 3, 4, 5, 6, 7] rfl
  have hDc := hD.sub (ws' := w1 a d u) [0, 1, 2, 3, 4, 5, 6, 7] (by decide) rfl
  have hKc := hK.sub (tys' := t1 d) [0, 1, 2, 3, 4, 5, 6] rfl
  have hFc := va_free (wc := w1 a d u) hD hS hA [0, 1, 2, 3, 4, 5, 6, 7] rfl
  refine va_calli (va_runV (As := av) (rest := rest) ⟨hx, hb, hml, hown, hts⟩ (hM l D a d H.size) (cwV av.length hts hG rfl rfl rfl hy ⟨Nat.le_trans hfr hRf, Nat.le_trans hlo hRl⟩) ⟨fun a U g mk q => by obtain ⟨q0, q1, qP, qK, qD⟩ := q; exact ⟨q0, q1, qP, va_K.moved (u := U) (U := U.calling g mk a) (Vm.Alike.refl U.vm) qK, qD⟩, va_recv hKc hPc (ci := 0) (q0 := 0) rfl rfl, fun U hU hW => ⟨rfl, by rw [hU], by rw [hU]; exact hPc, va_K.moved hW.alike hKc, hDc.weaken (fun _ _ _ _ => trivial)⟩⟩ rfl rfl hl.2.1 rfl (lv_room hst) hd ⟨hRc, hRs⟩) hS (fun q _ h => hFc q h) hFc (fun r u' t H1 locs1 ht hvm hw hB hz hk hS1 => ?_)
  obtain ⟨hP1, hK1, hD1⟩ := hB
  rw [ht] at hP1
  obtain ⟨hP2, hD2⟩ := va_join (wr := w2 b g v) hP hD [0, 1, 2, 3, 4, 5, 6, 7] [8, 9, 10, 11, 12, 13] rfl rfl (by decide) (by decide) hk hFc hP1 hD1
  exact k r u' hw H1 locs1 ls (hP2.sub [6, 7, 8, 9, 10, 11, 12, 13, 0, 1, 2, 3, 4, 5] rfl) (hD2.sub [6, 7, 8, 9, 10, 11, 12, 13, 0, 1, 2, 3, 4, 5] (by decide) rfl) hS1 hl
theorem x_callL2 {u : S1} {v : S2} {post : Int32 → S2 → Prop} (h : Ok X cc own (t1 d ++ t2 g) fr lo) (hM : Mi w2 t2 y cb nL2 rty fr2 lo2 av v post) (hd : decode cc pc = .ok (.invokevirtual idx, 3)) (hG : GoodIn lw_all (wsV own idx RX2 y (ws_ y cb nL2 (some rty))))
    (hy : y.cls = RX2 ∧ y.cls ≠ "java/lang/invoke/MethodHandle" ∧ y.cls ≠ "java/lang/invoke/VarHandle" ∧ (parseMethodDescriptor y.desc).map (fun q => q.parameters.length) = some av.length) (hfr : fr2 + 1 ≤ fr) (hlo : 8 + (nL2 + 11) + lo2 ≤ lo) (hst : (rest.map fun v => v.category).sum ≤ 8) (hs : st = av.reverse ++ .ref (b 0) :: rest)
    (k : ∀ (r : Int32) (v' : S2), post r v' → JJ X (w1 a d u ++ w2 b g v') lv (pc + 3) (.int r :: rest)) : JJ X (w1 a d u ++ w2 b g v) lv pc st := by
  subst hs
  obtain ⟨p, l, e, R, s, m, args, below, meth, c, Q, D, A, nL, cells, slots⟩ := X
  intro H locs ls hP hD hS hl
  obtain ⟨hx, hb, hml, hown, hts, hK, hA, hRf, hRl, hRc, hRs⟩ := h
  have hPc := hP.sub (ws' := w2 b g v) [8, 9, 10, 11, 12, 13] rfl
  have hDc := hD.sub (ws' := w2 b g v) [8, 9, 10, 11, 12, 13] (by decide) rfl
  have hKc := hK.sub (tys' := t2 g) [7, 8, 9, 10, 11] rfl
  have hFc := va_free (wc := w2 b g v) hD hS hA [8, 9, 10, 11, 12, 13] rfl
  refine va_calli (va_runV (As := av) (rest := rest) ⟨hx, hb, hml, hown, hts⟩ (hM l D b g H.size) (cwV av.length hts hG rfl rfl rfl hy ⟨Nat.le_trans hfr hRf, Nat.le_trans hlo hRl⟩) ⟨fun a U g mk q => by obtain ⟨q0, q1, qP, qK, qD⟩ := q; exact ⟨q0, q1, qP, va_K.moved (u := U) (U := U.calling g mk a) (Vm.Alike.refl U.vm) qK, qD⟩, va_recv hKc hPc (ci := 1) (q0 := 0) rfl rfl, fun U hU hW => ⟨rfl, by rw [hU], by rw [hU]; exact hPc, va_K.moved hW.alike hKc, hDc.weaken (fun _ _ _ _ => trivial)⟩⟩ rfl rfl hl.2.1 rfl (lv_room hst) hd ⟨hRc, hRs⟩) hS (fun q _ h => hFc q h) hFc (fun r v' t H1 locs1 ht hvm hw hB hz hk hS1 => ?_)
  obtain ⟨hP1, hK1, hD1⟩ := hB
  rw [ht] at hP1
  obtain ⟨hP2, hD2⟩ := va_join (wr := w1 a d u) hP hD [8, 9, 10, 11, 12, 13] [0, 1, 2, 3, 4, 5, 6, 7] rfl rfl (by decide) (by decide) hk hFc hP1 hD1
  exact k r v' hw H1 locs1 ls hP2 hD2 hS1 hl
end LC
theorem GL1_acyclic : GoodIn lw_all (wsV RX0 68 RX1 yX1_acyclic (ws_ yX1_acyclic cX1_acyclic 1 (some .int))) := lw_V q149 q150 q151 q24 q152
theorem YL1_acyclic : yX1_acyclic.cls = RX1 ∧ yX1_acyclic.cls ≠ "java/lang/invoke/MethodHandle" ∧ yX1_acyclic.cls ≠ "java/lang/invoke/VarHandle" ∧ (parseMethodDescriptor yX1_acyclic.desc).map (fun q => q.parameters.length) = some 0 := by decide +kernel
theorem kL1_acyclic {X : gx_C} {cc : ByteArray} {pc : Nat} {lv : List (Option Value)} {rest : List Value} {a b : Nat → Nat} {d g : Nat → ClassId} {u : S1} {v : S2} {post : Int32 → S1 → Prop} (h : Ok X cc RX0 (t1 d ++ t2 g) 8 312) (hd : decode cc pc = .ok (.invokevirtual 68, 3)) (hM : C1_acyclic [] u post) (hst : (rest.map fun v => v.category).sum ≤ 8) (k : ∀ (r : Int32) (u' : S1), post r u' → JJ X (w1 a d u' ++ w2 b g v) lv (pc + 3) (.int r :: rest)) : JJ X (w1 a d u ++ w2 b g v) lv pc (.ref (a 0) :: rest) := x_callL1 h hM hd GL1_acyclic YL1_acyclic (by decide) (by decide) hst rfl k
theorem GL1_add : GoodIn lw_all (wsV RX0 21 RX1 yX1_add (ws_ yX1_add cX1_add 3 (some .int))) := lw_V q71 q72 q73 q24 q74
theorem YL1_add : yX1_add.cls = RX1 ∧ yX1_add.cls ≠ "java/lang/invoke/MethodHandle" ∧ yX1_add.cls ≠ "java/lang/invoke/VarHandle" ∧ (parseMethodDescriptor yX1_add.desc).map (fun q => q.parameters.length) = some 2 := by decide +kernel
theorem kL1_add {X : gx_C} {cc : ByteArray} {pc : Nat} {lv : List (Option Value)} {rest : List Value} {a b : Nat → Nat} {d g : Nat → ClassId} {v0 v1 : Value} {u : S1} {v : S2} {post : Int32 → S1 → Prop} (h : Ok X cc RX0 (t1 d ++ t2 g) 8 312) (hd : decode cc pc = .ok (.invokevirtual 21, 3)) (hM : C1_add [v0, v1] u post) (hst : (rest.map fun v => v.category).sum ≤ 8) (k : ∀ (r : Int32) (u' : S1), post r u' → JJ X (w1 a d u' ++ w2 b g v) lv (pc + 3) (.int r :: rest)) : JJ X (w1 a d u ++ w2 b g v) lv pc (v1 :: v0 :: .ref (a 0) :: rest) := x_callL1 h hM hd GL1_add YL1_add (by decide) (by decide) hst rfl k
theorem GL1_coefficient : GoodIn lw_all (wsV RX0 44 RX1 yX1_coefficient (ws_ yX1_coefficient cX1_coefficient 3 (some .int))) := lw_V q108 q109 q110 q24 q111
theorem YL1_coefficient : yX1_coefficient.cls = RX1 ∧ yX1_coefficient.cls ≠ "java/lang/invoke/MethodHandle" ∧ yX1_coefficient.cls ≠ "java/lang/invoke/VarHandle" ∧ (parseMethodDescriptor yX1_coefficient.desc).map (fun q => q.parameters.length) = some 2 := by decide +kernel
theorem kL1_coefficient {X : gx_C} {cc : ByteArray} {pc : Nat} {lv : List (Option Value)} {rest : List Value} {a b : Nat → Nat} {d g : Nat → ClassId} {v0 v1 : Value} {u : S1} {v : S2} {post : Int32 → S1 → Prop} (h : Ok X cc RX0 (t1 d ++ t2 g) 8 312) (hd : decode cc pc = .ok (.invokevirtual 44, 3)) (hM : C1_coefficient [v0, v1] u post) (hst : (rest.map fun v => v.category).sum ≤ 8) (k : ∀ (r : Int32) (u' : S1), post r u' → JJ X (w1 a d u' ++ w2 b g v) lv (pc + 3) (.int r :: rest)) : JJ X (w1 a d u ++ w2 b g v) lv pc (v1 :: v0 :: .ref (a 0) :: rest) := x_callL1 h hM hd GL1_coefficient YL1_coefficient (by decide) (by decide) hst rfl k
theorem GL1_colourings : GoodIn lw_all (wsV RX0 60 RX1 yX1_colourings (ws_ yX1_colourings cX1_colourings 5 (some .int))) := lw_V q140 q141 q142 q24 q143
theorem YL1_colourings : yX1_colourings.cls = RX1 ∧ yX1_colourings.cls ≠ "java/lang/invoke/MethodHandle" ∧ yX1_colourings.cls ≠ "java/lang/invoke/VarHandle" ∧ (parseMethodDescriptor yX1_colourings.desc).map (fun q => q.parameters.length) = some 1 := by decide +kernel
theorem kL1_colourings {X : gx_C} {cc : ByteArray} {pc : Nat} {lv : List (Option Value)} {rest : List Value} {a b : Nat → Nat} {d g : Nat → ClassId} {v0 : Value} {u : S1} {v : S2} {post : Int32 → S1 → Prop} (h : Ok X cc RX0 (t1 d ++ t2 g) 8 312) (hd : decode cc pc = .ok (.invokevirtual 60, 3)) (hM : C1_colourings [v0] u post) (hst : (rest.map fun v => v.category).sum ≤ 8) (k : ∀ (r : Int32) (u' : S1), post r u' → JJ X (w1 a d u' ++ w2 b g v) lv (pc + 3) (.int r :: rest)) : JJ X (w1 a d u ++ w2 b g v) lv pc (v0 :: .ref (a 0) :: rest) := x_callL1 h hM hd GL1_colourings YL1_colourings (by decide) (by decide) hst rfl k
theorem GL1_drop : GoodIn lw_all (wsV RX0 26 RX1 yX1_drop (ws_ yX1_drop cX1_drop 3 (some .int))) := lw_V q75 q76 q77 q24 q78
theorem YL1_drop : yX1_drop.cls = RX1 ∧ yX1_drop.cls ≠ "java/lang/invoke/MethodHandle" ∧ yX1_drop.cls ≠ "java/lang/invoke/VarHandle" ∧ (parseMethodDescriptor yX1_drop.desc).map (fun q => q.parameters.length) = some 1 := by decide +kernel
theorem kL1_drop {X : gx_C} {cc : ByteArray} {pc : Nat} {lv : List (Option Value)} {rest : List Value} {a b : Nat → Nat} {d g : Nat → ClassId} {v0 : Value} {u : S1} {v : S2} {post : Int32 → S1 → Prop} (h : Ok X cc RX0 (t1 d ++ t2 g) 8 312) (hd : decode cc pc = .ok (.invokevirtual 26, 3)) (hM : C1_drop [v0] u post) (hst : (rest.map fun v => v.category).sum ≤ 8) (k : ∀ (r : Int32) (u' : S1), post r u' → JJ X (w1 a d u' ++ w2 b g v) lv (pc + 3) (.int r :: rest)) : JJ X (w1 a d u ++ w2 b g v) lv pc (v0 :: .ref (a 0) :: rest) := x_callL1 h hM hd GL1_drop YL1_drop (by decide) (by decide) hst rfl k
theorem GL1_edges : GoodIn lw_all (wsV RX0 35 RX1 yX1_edges (ws_ yX1_edges cX1_edges 1 (some .int))) := lw_V q84 q85 q86 q24 q87
theorem YL1_edges : yX1_edges.cls = RX1 ∧ yX1_edges.cls ≠ "java/lang/invoke/MethodHandle" ∧ yX1_edges.cls ≠ "java/lang/invoke/VarHandle" ∧ (parseMethodDescriptor yX1_edges.desc).map (fun q => q.parameters.length) = some 0 := by decide +kernel
theorem kL1_edges {X : gx_C} {cc : ByteArray} {pc : Nat} {lv : List (Option Value)} {rest : List Value} {a b : Nat → Nat} {d g : Nat → ClassId} {u : S1} {v : S2} {post : Int32 → S1 → Prop} (h : Ok X cc RX0 (t1 d ++ t2 g) 8 312) (hd : decode cc pc = .ok (.invokevirtual 35, 3)) (hM : C1_edges [] u post) (hst : (rest.map fun v => v.category).sum ≤ 8) (k : ∀ (r : Int32) (u' : S1), post r u' → JJ X (w1 a d u' ++ w2 b g v) lv (pc + 3) (.int r :: rest)) : JJ X (w1 a d u ++ w2 b g v) lv pc (.ref (a 0) :: rest) := x_callL1 h hM hd GL1_edges YL1_edges (by decide) (by decide) hst rfl k
theorem GL1_flows : GoodIn lw_all (wsV RX0 64 RX1 yX1_flows (ws_ yX1_flows cX1_flows 4 (some .int))) := lw_V q145 q146 q147 q24 q148
theorem YL1_flows : yX1_flows.cls = RX1 ∧ yX1_flows.cls ≠ "java/lang/invoke/MethodHandle" ∧ yX1_flows.cls ≠ "java/lang/invoke/VarHandle" ∧ (parseMethodDescriptor yX1_flows.desc).map (fun q => q.parameters.length) = some 1 := by decide +kernel
theorem kL1_flows {X : gx_C} {cc : ByteArray} {pc : Nat} {lv : List (Option Value)} {rest : List Value} {a b : Nat → Nat} {d g : Nat → ClassId} {v0 : Value} {u : S1} {v : S2} {post : Int32 → S1 → Prop} (h : Ok X cc RX0 (t1 d ++ t2 g) 8 312) (hd : decode cc pc = .ok (.invokevirtual 64, 3)) (hM : C1_flows [v0] u post) (hst : (rest.map fun v => v.category).sum ≤ 8) (k : ∀ (r : Int32) (u' : S1), post r u' → JJ X (w1 a d u' ++ w2 b g v) lv (pc + 3) (.int r :: rest)) : JJ X (w1 a d u ++ w2 b g v) lv pc (v0 :: .ref (a 0) :: rest) := x_callL1 h hM hd GL1_flows YL1_flows (by decide) (by decide) hst rfl k
theorem GL1_forests : GoodIn lw_all (wsV RX0 52 RX1 yX1_forests (ws_ yX1_forests cX1_forests 1 (some .int))) := lw_V q132 q133 q134 q24 q135
theorem YL1_forests : yX1_forests.cls = RX1 ∧ yX1_forests.cls ≠ "java/lang/invoke/MethodHandle" ∧ yX1_forests.cls ≠ "java/lang/invoke/VarHandle" ∧ (parseMethodDescriptor yX1_forests.desc).map (fun q => q.parameters.length) = some 0 := by decide +kernel
theorem kL1_forests {X : gx_C} {cc : ByteArray} {pc : Nat} {lv : List (Option Value)} {rest : List Value} {a b : Nat → Nat} {d g : Nat → ClassId} {u : S1} {v : S2} {post : Int32 → S1 → Prop} (h : Ok X cc RX0 (t1 d ++ t2 g) 8 312) (hd : decode cc pc = .ok (.invokevirtual 52, 3)) (hM : C1_forests [] u post) (hst : (rest.map fun v => v.category).sum ≤ 8) (k : ∀ (r : Int32) (u' : S1), post r u' → JJ X (w1 a d u' ++ w2 b g v) lv (pc + 3) (.int r :: rest)) : JJ X (w1 a d u ++ w2 b g v) lv pc (.ref (a 0) :: rest) := x_callL1 h hM hd GL1_forests YL1_forests (by decide) (by decide) hst rfl k
theorem GL1_merge : GoodIn lw_all (wsV RX0 31 RX1 yX1_merge (ws_ yX1_merge cX1_merge 7 (some .int))) := lw_V q79 q80 q81 q24 q82
theorem YL1_merge : yX1_merge.cls = RX1 ∧ yX1_merge.cls ≠ "java/lang/invoke/MethodHandle" ∧ yX1_merge.cls ≠ "java/lang/invoke/VarHandle" ∧ (parseMethodDescriptor yX1_merge.desc).map (fun q => q.parameters.length) = some 1 := by decide +kernel
theorem kL1_merge {X : gx_C} {cc : ByteArray} {pc : Nat} {lv : List (Option Value)} {rest : List Value} {a b : Nat → Nat} {d g : Nat → ClassId} {v0 : Value} {u : S1} {v : S2} {post : Int32 → S1 → Prop} (h : Ok X cc RX0 (t1 d ++ t2 g) 8 312) (hd : decode cc pc = .ok (.invokevirtual 31, 3)) (hM : C1_merge [v0] u post) (hst : (rest.map fun v => v.category).sum ≤ 8) (k : ∀ (r : Int32) (u' : S1), post r u' → JJ X (w1 a d u' ++ w2 b g v) lv (pc + 3) (.int r :: rest)) : JJ X (w1 a d u ++ w2 b g v) lv pc (v0 :: .ref (a 0) :: rest) := x_callL1 h hM hd GL1_merge YL1_merge (by decide) (by decide) hst rfl k
theorem GL1_parts : GoodIn lw_all (wsV RX0 40 RX1 yX1_parts (ws_ yX1_parts cX1_parts 4 (some .int))) := lw_V q88 q89 q90 q24 q91
theorem YL1_parts : yX1_parts.cls = RX1 ∧ yX1_parts.cls ≠ "java/lang/invoke/MethodHandle" ∧ yX1_parts.cls ≠ "java/lang/invoke/VarHandle" ∧ (parseMethodDescriptor yX1_parts.desc).map (fun q => q.parameters.length) = some 0 := by decide +kernel
theorem kL1_parts {X : gx_C} {cc : ByteArray} {pc : Nat} {lv : List (Option Value)} {rest : List Value} {a b : Nat → Nat} {d g : Nat → ClassId} {u : S1} {v : S2} {post : Int32 → S1 → Prop} (h : Ok X cc RX0 (t1 d ++ t2 g) 8 312) (hd : decode cc pc = .ok (.invokevirtual 40, 3)) (hM : C1_parts [] u post) (hst : (rest.map fun v => v.category).sum ≤ 8) (k : ∀ (r : Int32) (u' : S1), post r u' → JJ X (w1 a d u' ++ w2 b g v) lv (pc + 3) (.int r :: rest)) : JJ X (w1 a d u ++ w2 b g v) lv pc (.ref (a 0) :: rest) := x_callL1 h hM hd GL1_parts YL1_parts (by decide) (by decide) hst rfl k
theorem GL1_spanning : GoodIn lw_all (wsV RX0 56 RX1 yX1_spanning (ws_ yX1_spanning cX1_spanning 1 (some .int))) := lw_V q136 q137 q138 q24 q139
theorem YL1_spanning : yX1_spanning.cls = RX1 ∧ yX1_spanning.cls ≠ "java/lang/invoke/MethodHandle" ∧ yX1_spanning.cls ≠ "java/lang/invoke/VarHandle" ∧ (parseMethodDescriptor yX1_spanning.desc).map (fun q => q.parameters.length) = some 0 := by decide +kernel
theorem kL1_spanning {X : gx_C} {cc : ByteArray} {pc : Nat} {lv : List (Option Value)} {rest : List Value} {a b : Nat → Nat} {d g : Nat → ClassId} {u : S1} {v : S2} {post : Int32 → S1 → Prop} (h : Ok X cc RX0 (t1 d ++ t2 g) 8 312) (hd : decode cc pc = .ok (.invokevirtual 56, 3)) (hM : C1_spanning [] u post) (hst : (rest.map fun v => v.category).sum ≤ 8) (k : ∀ (r : Int32) (u' : S1), post r u' → JJ X (w1 a d u' ++ w2 b g v) lv (pc + 3) (.int r :: rest)) : JJ X (w1 a d u ++ w2 b g v) lv pc (.ref (a 0) :: rest) := x_callL1 h hM hd GL1_spanning YL1_spanning (by decide) (by decide) hst rfl k
theorem GL1_trees : GoodIn lw_all (wsV RX0 48 RX1 yX1_trees (ws_ yX1_trees cX1_trees 1 (some .int))) := lw_V q124 q125 q126 q24 q127
theorem YL1_trees : yX1_trees.cls = RX1 ∧ yX1_trees.cls ≠ "java/lang/invoke/MethodHandle" ∧ yX1_trees.cls ≠ "java/lang/invoke/VarHandle" ∧ (parseMethodDescriptor yX1_trees.desc).map (fun q => q.parameters.length) = some 0 := by decide +kernel
theorem kL1_trees {X : gx_C} {cc : ByteArray} {pc : Nat} {lv : List (Option Value)} {rest : List Value} {a b : Nat → Nat} {d g : Nat → ClassId} {u : S1} {v : S2} {post : Int32 → S1 → Prop} (h : Ok X cc RX0 (t1 d ++ t2 g) 8 312) (hd : decode cc pc = .ok (.invokevirtual 48, 3)) (hM : C1_trees [] u post) (hst : (rest.map fun v => v.category).sum ≤ 8) (k : ∀ (r : Int32) (u' : S1), post r u' → JJ X (w1 a d u' ++ w2 b g v) lv (pc + 3) (.int r :: rest)) : JJ X (w1 a d u ++ w2 b g v) lv pc (.ref (a 0) :: rest) := x_callL1 h hM hd GL1_trees YL1_trees (by decide) (by decide) hst rfl k
theorem GL2_acyclic : GoodIn lw_all (wsV RX0 71 RX2 yX2_acyclic (ws_ yX2_acyclic cX2_acyclic 3 (some .int))) := lw_V q286 q287 q288 q25 q289
theorem YL2_acyclic : yX2_acyclic.cls = RX2 ∧ yX2_acyclic.cls ≠ "java/lang/invoke/MethodHandle" ∧ yX2_acyclic.cls ≠ "java/lang/invoke/VarHandle" ∧ (parseMethodDescriptor yX2_acyclic.desc).map (fun q => q.parameters.length) = some 0 := by decide +kernel
theorem kL2_acyclic {X : gx_C} {cc : ByteArray} {pc : Nat} {lv : List (Option Value)} {rest : List Value} {a b : Nat → Nat} {d g : Nat → ClassId} {u : S1} {v : S2} {post : Int32 → S2 → Prop} (h : Ok X cc RX0 (t1 d ++ t2 g) 8 312) (hd : decode cc pc = .ok (.invokevirtual 71, 3)) (hM : C2_acyclic [] v post) (hst : (rest.map fun v => v.category).sum ≤ 8) (k : ∀ (r : Int32) (v' : S2), post r v' → JJ X (w1 a d u ++ w2 b g v') lv (pc + 3) (.int r :: rest)) : JJ X (w1 a d u ++ w2 b g v) lv pc (.ref (b 0) :: rest) := x_callL2 h hM hd GL2_acyclic YL2_acyclic (by decide) (by decide) hst rfl k
theorem GL2_add : GoodIn lw_all (wsV RX0 25 RX2 yX2_add (ws_ yX2_add cX2_add 3 (some .int))) := lw_V q185 q186 q187 q25 q188
theorem YL2_add : yX2_add.cls = RX2 ∧ yX2_add.cls ≠ "java/lang/invoke/MethodHandle" ∧ yX2_add.cls ≠ "java/lang/invoke/VarHandle" ∧ (parseMethodDescriptor yX2_add.desc).map (fun q => q.parameters.length) = some 2 := by decide +kernel
theorem kL2_add {X : gx_C} {cc : ByteArray} {pc : Nat} {lv : List (Option Value)} {rest : List Value} {a b : Nat → Nat} {d g : Nat → ClassId} {v0 v1 : Value} {u : S1} {v : S2} {post : Int32 → S2 → Prop} (h : Ok X cc RX0 (t1 d ++ t2 g) 8 312) (hd : decode cc pc = .ok (.invokevirtual 25, 3)) (hM : C2_add [v0, v1] v post) (hst : (rest.map fun v => v.category).sum ≤ 8) (k : ∀ (r : Int32) (v' : S2), post r v' → JJ X (w1 a d u ++ w2 b g v') lv (pc + 3) (.int r :: rest)) : JJ X (w1 a d u ++ w2 b g v) lv pc (v1 :: v0 :: .ref (b 0) :: rest) := x_callL2 h hM hd GL2_add YL2_add (by decide) (by decide) hst rfl k
theorem GL2_coefficient : GoodIn lw_all (wsV RX0 47 RX2 yX2_coefficient (ws_ yX2_coefficient cX2_coefficient 8 (some .int))) := lw_V q230 q231 q232 q25 q233
theorem YL2_coefficient : yX2_coefficient.cls = RX2 ∧ yX2_coefficient.cls ≠ "java/lang/invoke/MethodHandle" ∧ yX2_coefficient.cls ≠ "java/lang/invoke/VarHandle" ∧ (parseMethodDescriptor yX2_coefficient.desc).map (fun q => q.parameters.length) = some 2 := by decide +kernel
theorem kL2_coefficient {X : gx_C} {cc : ByteArray} {pc : Nat} {lv : List (Option Value)} {rest : List Value} {a b : Nat → Nat} {d g : Nat → ClassId} {v0 v1 : Value} {u : S1} {v : S2} {post : Int32 → S2 → Prop} (h : Ok X cc RX0 (t1 d ++ t2 g) 8 312) (hd : decode cc pc = .ok (.invokevirtual 47, 3)) (hM : C2_coefficient [v0, v1] v post) (hst : (rest.map fun v => v.category).sum ≤ 8) (k : ∀ (r : Int32) (v' : S2), post r v' → JJ X (w1 a d u ++ w2 b g v') lv (pc + 3) (.int r :: rest)) : JJ X (w1 a d u ++ w2 b g v) lv pc (v1 :: v0 :: .ref (b 0) :: rest) := x_callL2 h hM hd GL2_coefficient YL2_coefficient (by decide) (by decide) hst rfl k
theorem GL2_colourings : GoodIn lw_all (wsV RX0 63 RX2 yX2_colourings (ws_ yX2_colourings cX2_colourings 7 (some .int))) := lw_V q266 q267 q268 q25 q269
theorem YL2_colourings : yX2_colourings.cls = RX2 ∧ yX2_colourings.cls ≠ "java/lang/invoke/MethodHandle" ∧ yX2_colourings.cls ≠ "java/lang/invoke/VarHandle" ∧ (parseMethodDescriptor yX2_colourings.desc).map (fun q => q.parameters.length) = some 1 := by decide +kernel
theorem kL2_colourings {X : gx_C} {cc : ByteArray} {pc : Nat} {lv : List (Option Value)} {rest : List Value} {a b : Nat → Nat} {d g : Nat → ClassId} {v0 : Value} {u : S1} {v : S2} {post : Int32 → S2 → Prop} (h : Ok X cc RX0 (t1 d ++ t2 g) 8 312) (hd : decode cc pc = .ok (.invokevirtual 63, 3)) (hM : C2_colourings [v0] v post) (hst : (rest.map fun v => v.category).sum ≤ 8) (k : ∀ (r : Int32) (v' : S2), post r v' → JJ X (w1 a d u ++ w2 b g v') lv (pc + 3) (.int r :: rest)) : JJ X (w1 a d u ++ w2 b g v) lv pc (v0 :: .ref (b 0) :: rest) := x_callL2 h hM hd GL2_colourings YL2_colourings (by decide) (by decide) hst rfl k
theorem GL2_drop : GoodIn lw_all (wsV RX0 30 RX2 yX2_drop (ws_ yX2_drop cX2_drop 3 (some .int))) := lw_V q193 q194 q195 q25 q196
theorem YL2_drop : yX2_drop.cls = RX2 ∧ yX2_drop.cls ≠ "java/lang/invoke/MethodHandle" ∧ yX2_drop.cls ≠ "java/lang/invoke/VarHandle" ∧ (parseMethodDescriptor yX2_drop.desc).map (fun q => q.parameters.length) = some 1 := by decide +kernel
theorem kL2_drop {X : gx_C} {cc : ByteArray} {pc : Nat} {lv : List (Option Value)} {rest : List Value} {a b : Nat → Nat} {d g : Nat → ClassId} {v0 : Value} {u : S1} {v : S2} {post : Int32 → S2 → Prop} (h : Ok X cc RX0 (t1 d ++ t2 g) 8 312) (hd : decode cc pc = .ok (.invokevirtual 30, 3)) (hM : C2_drop [v0] v post) (hst : (rest.map fun v => v.category).sum ≤ 8) (k : ∀ (r : Int32) (v' : S2), post r v' → JJ X (w1 a d u ++ w2 b g v') lv (pc + 3) (.int r :: rest)) : JJ X (w1 a d u ++ w2 b g v) lv pc (v0 :: .ref (b 0) :: rest) := x_callL2 h hM hd GL2_drop YL2_drop (by decide) (by decide) hst rfl k
theorem GL2_edges : GoodIn lw_all (wsV RX0 39 RX2 yX2_edges (ws_ yX2_edges cX2_edges 1 (some .int))) := lw_V q206 q207 q208 q25 q209
theorem YL2_edges : yX2_edges.cls = RX2 ∧ yX2_edges.cls ≠ "java/lang/invoke/MethodHandle" ∧ yX2_edges.cls ≠ "java/lang/invoke/VarHandle" ∧ (parseMethodDescriptor yX2_edges.desc).map (fun q => q.parameters.length) = some 0 := by decide +kernel
theorem kL2_edges {X : gx_C} {cc : ByteArray} {pc : Nat} {lv : List (Option Value)} {rest : List Value} {a b : Nat → Nat} {d g : Nat → ClassId} {u : S1} {v : S2} {post : Int32 → S2 → Prop} (h : Ok X cc RX0 (t1 d ++ t2 g) 8 312) (hd : decode cc pc = .ok (.invokevirtual 39, 3)) (hM : C2_edges [] v post) (hst : (rest.map fun v => v.category).sum ≤ 8) (k : ∀ (r : Int32) (v' : S2), post r v' → JJ X (w1 a d u ++ w2 b g v') lv (pc + 3) (.int r :: rest)) : JJ X (w1 a d u ++ w2 b g v) lv pc (.ref (b 0) :: rest) := x_callL2 h hM hd GL2_edges YL2_edges (by decide) (by decide) hst rfl k
theorem GL2_flows : GoodIn lw_all (wsV RX0 67 RX2 yX2_flows (ws_ yX2_flows cX2_flows 5 (some .int))) := lw_V q278 q279 q280 q25 q281
theorem YL2_flows : yX2_flows.cls = RX2 ∧ yX2_flows.cls ≠ "java/lang/invoke/MethodHandle" ∧ yX2_flows.cls ≠ "java/lang/invoke/VarHandle" ∧ (parseMethodDescriptor yX2_flows.desc).map (fun q => q.parameters.length) = some 1 := by decide +kernel
theorem kL2_flows {X : gx_C} {cc : ByteArray} {pc : Nat} {lv : List (Option Value)} {rest : List Value} {a b : Nat → Nat} {d g : Nat → ClassId} {v0 : Value} {u : S1} {v : S2} {post : Int32 → S2 → Prop} (h : Ok X cc RX0 (t1 d ++ t2 g) 8 312) (hd : decode cc pc = .ok (.invokevirtual 67, 3)) (hM : C2_flows [v0] v post) (hst : (rest.map fun v => v.category).sum ≤ 8) (k : ∀ (r : Int32) (v' : S2), post r v' → JJ X (w1 a d u ++ w2 b g v') lv (pc + 3) (.int r :: rest)) : JJ X (w1 a d u ++ w2 b g v) lv pc (v0 :: .ref (b 0) :: rest) := x_callL2 h hM hd GL2_flows YL2_flows (by decide) (by decide) hst rfl k
theorem GL2_forests : GoodIn lw_all (wsV RX0 55 RX2 yX2_forests (ws_ yX2_forests cX2_forests 1 (some .int))) := lw_V q258 q259 q260 q25 q261
theorem YL2_forests : yX2_forests.cls = RX2 ∧ yX2_forests.cls ≠ "java/lang/invoke/MethodHandle" ∧ yX2_forests.cls ≠ "java/lang/invoke/VarHandle" ∧ (parseMethodDescriptor yX2_forests.desc).map (fun q => q.parameters.length) = some 0 := by decide +kernel
theorem kL2_forests {X : gx_C} {cc : ByteArray} {pc : Nat} {lv : List (Option Value)} {rest : List Value} {a b : Nat → Nat} {d g : Nat → ClassId} {u : S1} {v : S2} {post : Int32 → S2 → Prop} (h : Ok X cc RX0 (t1 d ++ t2 g) 8 312) (hd : decode cc pc = .ok (.invokevirtual 55, 3)) (hM : C2_forests [] v post) (hst : (rest.map fun v => v.category).sum ≤ 8) (k : ∀ (r : Int32) (v' : S2), post r v' → JJ X (w1 a d u ++ w2 b g v') lv (pc + 3) (.int r :: rest)) : JJ X (w1 a d u ++ w2 b g v) lv pc (.ref (b 0) :: rest) := x_callL2 h hM hd GL2_forests YL2_forests (by decide) (by decide) hst rfl k
theorem GL2_merge : GoodIn lw_all (wsV RX0 34 RX2 yX2_merge (ws_ yX2_merge cX2_merge 5 (some .int))) := lw_V q201 q202 q203 q25 q204
theorem YL2_merge : yX2_merge.cls = RX2 ∧ yX2_merge.cls ≠ "java/lang/invoke/MethodHandle" ∧ yX2_merge.cls ≠ "java/lang/invoke/VarHandle" ∧ (parseMethodDescriptor yX2_merge.desc).map (fun q => q.parameters.length) = some 1 := by decide +kernel
theorem kL2_merge {X : gx_C} {cc : ByteArray} {pc : Nat} {lv : List (Option Value)} {rest : List Value} {a b : Nat → Nat} {d g : Nat → ClassId} {v0 : Value} {u : S1} {v : S2} {post : Int32 → S2 → Prop} (h : Ok X cc RX0 (t1 d ++ t2 g) 8 312) (hd : decode cc pc = .ok (.invokevirtual 34, 3)) (hM : C2_merge [v0] v post) (hst : (rest.map fun v => v.category).sum ≤ 8) (k : ∀ (r : Int32) (v' : S2), post r v' → JJ X (w1 a d u ++ w2 b g v') lv (pc + 3) (.int r :: rest)) : JJ X (w1 a d u ++ w2 b g v) lv pc (v0 :: .ref (b 0) :: rest) := x_callL2 h hM hd GL2_merge YL2_merge (by decide) (by decide) hst rfl k
theorem GL2_parts : GoodIn lw_all (wsV RX0 43 RX2 yX2_parts (ws_ yX2_parts cX2_parts 2 (some .int))) := lw_V q210 q211 q212 q25 q213
theorem YL2_parts : yX2_parts.cls = RX2 ∧ yX2_parts.cls ≠ "java/lang/invoke/MethodHandle" ∧ yX2_parts.cls ≠ "java/lang/invoke/VarHandle" ∧ (parseMethodDescriptor yX2_parts.desc).map (fun q => q.parameters.length) = some 0 := by decide +kernel
theorem kL2_parts {X : gx_C} {cc : ByteArray} {pc : Nat} {lv : List (Option Value)} {rest : List Value} {a b : Nat → Nat} {d g : Nat → ClassId} {u : S1} {v : S2} {post : Int32 → S2 → Prop} (h : Ok X cc RX0 (t1 d ++ t2 g) 8 312) (hd : decode cc pc = .ok (.invokevirtual 43, 3)) (hM : C2_parts [] v post) (hst : (rest.map fun v => v.category).sum ≤ 8) (k : ∀ (r : Int32) (v' : S2), post r v' → JJ X (w1 a d u ++ w2 b g v') lv (pc + 3) (.int r :: rest)) : JJ X (w1 a d u ++ w2 b g v) lv pc (.ref (b 0) :: rest) := x_callL2 h hM hd GL2_parts YL2_parts (by decide) (by decide) hst rfl k
theorem GL2_spanning : GoodIn lw_all (wsV RX0 59 RX2 yX2_spanning (ws_ yX2_spanning cX2_spanning 1 (some .int))) := lw_V q262 q263 q264 q25 q265
theorem YL2_spanning : yX2_spanning.cls = RX2 ∧ yX2_spanning.cls ≠ "java/lang/invoke/MethodHandle" ∧ yX2_spanning.cls ≠ "java/lang/invoke/VarHandle" ∧ (parseMethodDescriptor yX2_spanning.desc).map (fun q => q.parameters.length) = some 0 := by decide +kernel
theorem kL2_spanning {X : gx_C} {cc : ByteArray} {pc : Nat} {lv : List (Option Value)} {rest : List Value} {a b : Nat → Nat} {d g : Nat → ClassId} {u : S1} {v : S2} {post : Int32 → S2 → Prop} (h : Ok X cc RX0 (t1 d ++ t2 g) 8 312) (hd : decode cc pc = .ok (.invokevirtual 59, 3)) (hM : C2_spanning [] v post) (hst : (rest.map fun v => v.category).sum ≤ 8) (k : ∀ (r : Int32) (v' : S2), post r v' → JJ X (w1 a d u ++ w2 b g v') lv (pc + 3) (.int r :: rest)) : JJ X (w1 a d u ++ w2 b g v) lv pc (.ref (b 0) :: rest) := x_callL2 h hM hd GL2_spanning YL2_spanning (by decide) (by decide) hst rfl k
theorem GL2_trees : GoodIn lw_all (wsV RX0 51 RX2 yX2_trees (ws_ yX2_trees cX2_trees 1 (some .int))) := lw_V q250 q251 q252 q25 q253
theorem YL2_trees : yX2_trees.cls = RX2 ∧ yX2_trees.cls ≠ "java/lang/invoke/MethodHandle" ∧ yX2_trees.cls ≠ "java/lang/invoke/VarHandle" ∧ (parseMethodDescriptor yX2_trees.desc).map (fun q => q.parameters.length) = some 0 := by decide +kernel
theorem kL2_trees {X : gx_C} {cc : ByteArray} {pc : Nat} {lv : List (Option Value)} {rest : List Value} {a b : Nat → Nat} {d g : Nat → ClassId} {u : S1} {v : S2} {post : Int32 → S2 → Prop} (h : Ok X cc RX0 (t1 d ++ t2 g) 8 312) (hd : decode cc pc = .ok (.invokevirtual 51, 3)) (hM : C2_trees [] v post) (hst : (rest.map fun v => v.category).sum ≤ 8) (k : ∀ (r : Int32) (v' : S2), post r v' → JJ X (w1 a d u ++ w2 b g v') lv (pc + 3) (.int r :: rest)) : JJ X (w1 a d u ++ w2 b g v) lv pc (.ref (b 0) :: rest) := x_callL2 h hM hd GL2_trees YL2_trees (by decide) (by decide) hst rfl k
end
section
set_option maxRecDepth 100000
/-! both sides answer the same -/
theorem gp_Radd_det {n : Nat} {es es1 es2 : List (Nat × Nat)} {x y r r' : Int32} (hn : n ≤ 6) (h : gp_Radd n es x y r es1) (h' : gp_Radd n es x y r' es2) : r = r' ∧ es1 = es2 := by
  rcases h with ⟨a, rfl, rfl⟩ | ⟨a, b, rfl, rfl⟩ | ⟨a, p, q, hp, hq, e1, e2, rfl, rfl⟩
  · rcases h' with ⟨a', rfl, rfl⟩ | ⟨a', b', rfl, rfl⟩ | ⟨a', p', q', hp', hq', e1', e2', rfl, rfl⟩
    · exact ⟨rfl, rfl⟩
    · omega
    · omega
  · rcases h' with ⟨a', rfl, rfl⟩ | ⟨a', b', rfl, rfl⟩ | ⟨a', p', q', hp', hq', e1', e2', rfl, rfl⟩
    · omega
    · exact ⟨rfl, rfl⟩
    · exact absurd ⟨⟨p', hp', e1'⟩, ⟨q', hq', e2'⟩⟩ b
  · rcases h' with ⟨a', rfl, rfl⟩ | ⟨a', b', rfl, rfl⟩ | ⟨a', p', q', hp', hq', e1', e2', rfl, rfl⟩
    · omega
    · exact absurd ⟨⟨p, hp, e1⟩, ⟨q, hq, e2⟩⟩ b'
    · have h1 : p = p' := (n_eq (by omega) (by omega)).mp (e1.symm.trans e1')
      have h2 : q = q' := (n_eq (by omega) (by omega)).mp (e2.symm.trans e2')
      rw [h1, h2]; exact ⟨rfl, rfl⟩
theorem gp_Rdrop_det {es es1 es2 : List (Nat × Nat)} {x r r' : Int32} (hm : es.length ≤ 8) (h : gp_Rdrop es x r es1) (h' : gp_Rdrop es x r' es2) : r = r' ∧ es1 = es2 := by
  rcases h with ⟨i, hi, e1, rfl, rfl⟩ | ⟨b, rfl, rfl⟩
  · rcases h' with ⟨i', hi', e1', rfl, rfl⟩ | ⟨b', rfl, rfl⟩
    · have h1 : i = i' := (n_eq (by omega) (by omega)).mp (e1.symm.trans e1')
      rw [h1]; exact ⟨rfl, rfl⟩
    · exact absurd ⟨i, hi, e1⟩ b'
  · rcases h' with ⟨i', hi', e1', rfl, rfl⟩ | ⟨b', rfl, rfl⟩
    · exact absurd ⟨i', hi', e1'⟩ b
    · exact ⟨rfl, rfl⟩
theorem gp_Rmerge_det {es es1 es2 : List (Nat × Nat)} {x r r' : Int32} (hm : es.length ≤ 8) (h : gp_Rmerge es x r es1) (h' : gp_Rmerge es x r' es2) : r = r' ∧ es1 = es2 := by
  rcases h with ⟨i, e, hi, e1, rfl, rfl⟩ | ⟨b, rfl, rfl⟩
  · have hil := (List.getElem?_eq_some_iff.mp hi).1
    rcases h' with ⟨i', e', hi', e1', rfl, rfl⟩ | ⟨b', rfl, rfl⟩
    · have hil' := (List.getElem?_eq_some_iff.mp hi').1
      have h1 : i = i' := (n_eq (by omega) (by omega)).mp (e1.symm.trans e1')
      subst h1
      rw [hi] at hi'
      injection hi' with h2
      rw [h2]; exact ⟨rfl, rfl⟩
    · exact absurd ⟨i, hil, e1⟩ b'
  · rcases h' with ⟨i', e', hi', e1', rfl, rfl⟩ | ⟨b', rfl, rfl⟩
    · exact absurd ⟨i', (List.getElem?_eq_some_iff.mp hi').1, e1'⟩ b
    · exact ⟨rfl, rfl⟩
theorem gp_big {k M : Nat} (hk : k ≤ M) (hM : M < 2147483648) : ¬ (nI k < 0 ∨ nI M < nI k) := by
  intro q
  rcases q with q | q
  · exact nI_pos (by omega) q
  · have := (n_lt hM (by omega)).mp q; omega
theorem gp_Rcol_det {n : Nat} {es : List (Nat × Nat)} {x r r' : Int32} (h : gp_Rcol n es x r) (h' : gp_Rcol n es x r') : r = r' := by
  rcases h with ⟨k, hk, e, rfl⟩ | ⟨b, rfl⟩
  · rcases h' with ⟨k', hk', e', rfl⟩ | ⟨b', rfl⟩
    · have h1 : k = k' := (n_eq (by omega) (by omega)).mp (e.symm.trans e')
      rw [h1]
    · rw [e] at b'; exact absurd b' (gp_big hk (by decide))
  · rcases h' with ⟨k', hk', e', rfl⟩ | ⟨b', rfl⟩
    · rw [e'] at b; exact absurd b (gp_big hk' (by decide))
    · rfl
theorem gp_big1 {k : Nat} (h1 : 1 ≤ k) (hk : k ≤ 4) : ¬ (nI k < nI 1 ∨ nI 4 < nI k) := by
  intro q
  rcases q with q | q
  · have := (n_lt (by omega) (by omega)).mp q; omega
  · have := (n_lt (by omega) (by omega)).mp q; omega
theorem gp_Rflow_det {n : Nat} {es : List (Nat × Nat)} {x r r' : Int32} (h : gp_Rflow n es x r) (h' : gp_Rflow n es x r') : r = r' := by
  rcases h with ⟨k, hk1, hk, e, rfl⟩ | ⟨b, rfl⟩
  · rcases h' with ⟨k', hk1', hk', e', rfl⟩ | ⟨b', rfl⟩
    · have h1 : k = k' := (n_eq (by omega) (by omega)).mp (e.symm.trans e')
      rw [h1]
    · rw [e] at b'; exact absurd b' (gp_big1 hk1 hk)
  · rcases h' with ⟨k', hk1', hk', e', rfl⟩ | ⟨b', rfl⟩
    · rw [e'] at b; exact absurd b (gp_big1 hk1' hk')
    · rfl
theorem gp_Rcoef_det {es : List (Nat × Nat)} {x y r r' : Int32} (h : (∃ i j : Nat, i < 9 ∧ j < 9 ∧ x = nI i ∧ y = nI j ∧ r = nI (gp_lc (9 * i + j) es gp_id 0 0)) ∨ ((x < 0 ∨ nI 8 < x ∨ y < 0 ∨ nI 8 < y) ∧ r = nI 0)) (h' : (∃ i j : Nat, i < 9 ∧ j < 9 ∧ x = nI i ∧ y = nI j ∧ r' = nI (gp_lc (9 * i + j) es gp_id 0 0)) ∨ ((x < 0 ∨ nI 8 < x ∨ y < 0 ∨ nI 8 < y) ∧ r' = nI 0)) : r = r' := by
  have key : ∀ i j : Nat, i < 9 → j < 9 → ¬ (nI i < 0 ∨ nI 8 < nI i ∨ nI j < 0 ∨ nI 8 < nI j) := by
    intro i j hi hj q
    rcases q with q | q | q | q
    · exact gp_big (show i ≤ 8 by omega) (by decide) (Or.inl q)
    · exact gp_big (show i ≤ 8 by omega) (by decide) (Or.inr q)
    · exact gp_big (show j ≤ 8 by omega) (by decide) (Or.inl q)
    · exact gp_big (show j ≤ 8 by omega) (by decide) (Or.inr q)
  rcases h with ⟨i, j, hi, hj, e1, e2, rfl⟩ | ⟨b, rfl⟩
  · rcases h' with ⟨i', j', hi', hj', e1', e2', rfl⟩ | ⟨b', rfl⟩
    · have h1 : i = i' := (n_eq (by omega) (by omega)).mp (e1.symm.trans e1')
      have h2 : j = j' := (n_eq (by omega) (by omega)).mp (e2.symm.trans e2')
      rw [h1, h2]
    · rw [e1, e2] at b'; exact absurd b' (key i j hi hj)
  · rcases h' with ⟨i', j', hi', hj', e1', e2', rfl⟩ | ⟨b', rfl⟩
    · rw [e1', e2'] at b; exact absurd b (key i' j' hi' hj')
    · rfl
theorem n_len {L i : Nat} (hL : L ≤ 193) (hi : i ≤ 200) : (nI L - nI 3 < nI i) ↔ L < i + 3 := by
  rw [Int32.lt_iff_toInt_lt, pk_sub_toInt (by omega) (by omega), nI_toInt (by omega)]
  omega
set_option maxHeartbeats 4000000 in
/-- the law's loop at its head: both objects hold the same graph -/
theorem law_loop {X : gx_C} {a b : Nat → Nat} {d g : Nat → ClassId} {sb L : Nat} {xs : Nat → Int32} (h : Ok X cL_law RX0 (t1 d ++ t2 g) 8 312) (hsc : Scr X sb L xs) (hL : L ≤ 193) (hret : ∀ (ws : va_W) (lv : List (Option Value)), JJ X ws lv 347 [.int 1]) {n : Nat} (hn : n ≤ 6) :
    ∀ (k i : Nat) (es : List (Nat × Nat)) (u : S1) (v : S2), i ≤ L + 1 → L + 2 ≤ i + k → G1 n es u → G2 n es v → JJ X (w1 a d u ++ w2 b g v) [some (.ref sb), some (.ref (a 0)), some (.ref (b 0)), some (.int (nI i))] 28 [] := by
  intro k
  induction k with
  | zero => intro i es u v h1 h2; omega
  | succ k ih =>
    intro i es u v h1 h2 hu hv
    refine x_iload_n h dL_law_28 rfl ?_
    refine x_aload_n h dL_law_29 rfl ?_
    refine x_slen h hsc dL_law_30 ?_
    refine x_iconst (nI 3) h dL_law_31 (by decide) ?_
    refine x_isub h dL_law_32 ?_
    refine x_icmp_gt 346 h dL_law_33 (by decide) (fun c => ?_) (fun c => ?_)
    · refine x_iconst 1 h dL_law_346 (by decide) ?_
      exact hret _ _
    · have hi : i + 3 ≤ L := by
        apply Classical.byContradiction
        intro q
        exact c ((n_len hL (by omega)).mpr (by omega))
      have hm : es.length ≤ 8 := by obtain ⟨_, _, _, _, _, _, _, _, hm⟩ := hv; exact hm.2
      have next : ∀ (es : List (Nat × Nat)) (u : S1) (v : S2), G1 n es u → G2 n es v → JJ X (w1 a d u ++ w2 b g v) [some (.ref sb), some (.ref (a 0)), some (.ref (b 0)), some (.int (nI i))] 340 [] := by
        intro es u v hu hv
        refine ic3_4_3 h dL_law_340 rfl ?_
        refine x_goto 28 h dL_law_343 (by decide) ?_
        exact ih (i + 3) es u v (by omega) (by omega) hu hv
      refine x_aload_n h dL_law_36 rfl ?_
      refine x_iload_n h dL_law_37 rfl ?_
      refine x_sld h hsc dL_law_38 (by omega) ?_
      refine x_bipush (nI 15) h dL_law_39 (by decide) ?_
      refine x_iand h dL_law_41 ?_
      obtain ⟨j, hj, ej⟩ := pk_andE (xs i) (m := nI 15) 4 (by decide)
      rw [ej]
      rcases (show j = 0 ∨ j = 1 ∨ j = 2 ∨ j = 3 ∨ j = 4 ∨ j = 5 ∨ j = 6 ∨ j = 7 ∨ j = 8 ∨ j = 9 ∨ j = 10 ∨ j = 11 ∨ 12 ≤ j by omega) with rfl | rfl | rfl | rfl | rfl | rfl | rfl | rfl | rfl | rfl | rfl | rfl | hbig
      · refine x_tabIn 104 h dL_law_42 (by decide) (by decide) (by decide) rfl (by decide) ?_
        refine x_aload_n h dL_law_104 rfl ?_
        refine x_aload_n h dL_law_105 rfl ?_
        refine x_iload_n h dL_law_106 rfl ?_
        refine x_iconst (nI 1) h dL_law_107 (by decide) ?_
        refine y_iadd h dL_law_108 ?_
        refine x_sld h hsc dL_law_109 (by omega) ?_
        refine x_aload_n h dL_law_110 rfl ?_
        refine x_iload_n h dL_law_111 rfl ?_
        refine x_iconst (nI 2) h dL_law_112 (by decide) ?_
        refine y_iadd h dL_law_113 ?_
        refine x_sld h hsc dL_law_114 (by omega) ?_
        refine kL1_add h dL_law_115 (m1_add hu (xs (i + 1)) (xs (i + 2))) (Nat.le_of_ble_eq_true rfl) (fun r u1 hp => ?_)
        obtain ⟨es1, hR1, hu1⟩ := hp
        refine x_aload_n h dL_law_118 rfl ?_
        refine x_aload_n h dL_law_119 rfl ?_
        refine x_iload_n h dL_law_120 rfl ?_
        refine x_iconst (nI 1) h dL_law_121 (by decide) ?_
        refine y_iadd h dL_law_122 ?_
        refine x_sld h hsc dL_law_123 (by omega) ?_
        refine x_aload_n h dL_law_124 rfl ?_
        refine x_iload_n h dL_law_125 rfl ?_
        refine x_iconst (nI 2) h dL_law_126 (by decide) ?_
        refine y_iadd h dL_law_127 ?_
        refine x_sld h hsc dL_law_128 (by omega) ?_
        refine kL2_add h dL_law_129 (m2_add hv (xs (i + 1)) (xs (i + 2))) (Nat.le_of_ble_eq_true rfl) (fun r2 v1 hp => ?_)
        obtain ⟨es2, hR2, hv1⟩ := hp
        obtain ⟨rfl, rfl⟩ := gp_Radd_det hn hR1 hR2
        refine x_icmp_eq 340 h dL_law_132 (by decide) (fun _ => ?_) (fun q => absurd rfl q)
        exact next es1 u1 v1 hu1 hv1
      · refine x_tabIn 137 h dL_law_42 (by decide) (by decide) (by decide) rfl (by decide) ?_
        refine x_aload_n h dL_law_137 rfl ?_
        refine x_aload_n h dL_law_138 rfl ?_
        refine x_iload_n h dL_law_139 rfl ?_
        refine x_iconst (nI 1) h dL_law_140 (by decide) ?_
        refine y_iadd h dL_law_141 ?_
        refine x_sld h hsc dL_law_142 (by omega) ?_
        refine kL1_drop h dL_law_143 (m1_drop hu (xs (i + 1))) (Nat.le_of_ble_eq_true rfl) (fun r u1 hp => ?_)
        have hp : ∃ es', gp_Rdrop es (xs (i + 1)) r es' ∧ G1 n es' u1 := by
          rcases hp with ⟨q, q1, q2, q3, q4⟩ | ⟨q1, q2, q3⟩
          · exact ⟨_, Or.inl ⟨q, q1, q2, q3, rfl⟩, q4.G1⟩
          · exact ⟨_, Or.inr ⟨q1, q2, rfl⟩, q3⟩
        obtain ⟨es1, hR1, hu1⟩ := hp
        refine x_aload_n h dL_law_146 rfl ?_
        refine x_aload_n h dL_law_147 rfl ?_
        refine x_iload_n h dL_law_148 rfl ?_
        refine x_iconst (nI 1) h dL_law_149 (by decide) ?_
        refine y_iadd h dL_law_150 ?_
        refine x_sld h hsc dL_law_151 (by omega) ?_
        refine kL2_drop h dL_law_152 (m2_drop hv (xs (i + 1))) (Nat.le_of_ble_eq_true rfl) (fun r2 v1 hp => ?_)
        obtain ⟨es2, hR2, hv1⟩ := hp
        obtain ⟨rfl, rfl⟩ := gp_Rdrop_det hm hR1 hR2
        refine x_icmp_eq 340 h dL_law_155 (by decide) (fun _ => ?_) (fun q => absurd rfl q)
        exact next es1 u1 v1 hu1 hv1
      · refine x_tabIn 160 h dL_law_42 (by decide) (by decide) (by decide) rfl (by decide) ?_
        refine x_aload_n h dL_law_160 rfl ?_
        refine x_aload_n h dL_law_161 rfl ?_
        refine x_iload_n h dL_law_162 rfl ?_
        refine x_iconst (nI 1) h dL_law_163 (by decide) ?_
        refine y_iadd h dL_law_164 ?_
        refine x_sld h hsc dL_law_165 (by omega) ?_
        refine kL1_merge h dL_law_166 (m1_merge hu (xs (i + 1))) (Nat.le_of_ble_eq_true rfl) (fun r u1 hp => ?_)
        obtain ⟨es1, hR1, hu1⟩ := hp
        refine x_aload_n h dL_law_169 rfl ?_
        refine x_aload_n h dL_law_170 rfl ?_
        refine x_iload_n h dL_law_171 rfl ?_
        refine x_iconst (nI 1) h dL_law_172 (by decide) ?_
        refine y_iadd h dL_law_173 ?_
        refine x_sld h hsc dL_law_174 (by omega) ?_
        refine kL2_merge h dL_law_175 (m2_merge hv (xs (i + 1))) (Nat.le_of_ble_eq_true rfl) (fun r2 v1 hp => ?_)
        obtain ⟨es2, hR2, hv1⟩ := hp
        obtain ⟨rfl, rfl⟩ := gp_Rmerge_det hm hR1 hR2
        refine x_icmp_eq 340 h dL_law_178 (by decide) (fun _ => ?_) (fun q => absurd rfl q)
        exact next es1 u1 v1 hu1 hv1
      · refine x_tabIn 183 h dL_law_42 (by decide) (by decide) (by decide) rfl (by decide) ?_
        refine x_aload_n h dL_law_183 rfl ?_
        obtain ⟨fe, se, rd, te, wt, wE, wP, wX, wY, rfl, hes, -⟩ := id hu
        refine kL1_edges h dL_law_184 m1_edges (Nat.le_of_ble_eq_true rfl) (fun r u1 hp => ?_)
        obtain ⟨rfl, rfl⟩ := hp
        refine x_aload_n h dL_law_187 rfl ?_
        obtain ⟨fi, se2, la, su, po, rfl, -⟩ := id hv
        refine kL2_edges h dL_law_188 m2_edges (Nat.le_of_ble_eq_true rfl) (fun r2 v1 hp => ?_)
        obtain ⟨rfl, rfl⟩ := hp
        refine x_icmp_eq 340 h dL_law_191 (by decide) (fun _ => ?_) (fun q => absurd rfl q)
        exact next es _ _ hu hv
      · refine x_tabIn 196 h dL_law_42 (by decide) (by decide) (by decide) rfl (by decide) ?_
        refine x_aload_n h dL_law_196 rfl ?_
        obtain ⟨fe, se, rd, te, wt, wE, wP, wX, wY, rfl, hes, -⟩ := id hu
        refine kL1_parts h dL_law_197 (m1_parts hn hes hm) (Nat.le_of_ble_eq_true rfl) (fun r u1 hp => ?_)
        obtain ⟨rfl, rfl⟩ := hp
        refine x_aload_n h dL_law_200 rfl ?_
        refine kL2_parts h dL_law_201 (m2_parts hv) (Nat.le_of_ble_eq_true rfl) (fun r2 v1 hp => ?_)
        obtain ⟨hv1, rfl⟩ := hp
        refine x_icmp_eq 340 h dL_law_204 (by decide) (fun _ => ?_) (fun q => absurd rfl q)
        exact next es _ v1 hu hv1
      · refine x_tabIn 209 h dL_law_42 (by decide) (by decide) (by decide) rfl (by decide) ?_
        refine x_aload_n h dL_law_209 rfl ?_
        refine x_aload_n h dL_law_210 rfl ?_
        refine x_iload_n h dL_law_211 rfl ?_
        refine x_iconst (nI 1) h dL_law_212 (by decide) ?_
        refine y_iadd h dL_law_213 ?_
        refine x_sld h hsc dL_law_214 (by omega) ?_
        refine x_aload_n h dL_law_215 rfl ?_
        refine x_iload_n h dL_law_216 rfl ?_
        refine x_iconst (nI 2) h dL_law_217 (by decide) ?_
        refine y_iadd h dL_law_218 ?_
        refine x_sld h hsc dL_law_219 (by omega) ?_
        refine kL1_coefficient h dL_law_220 (m1_coefficient hu (xs (i + 1)) (xs (i + 2))) (Nat.le_of_ble_eq_true rfl) (fun r u1 hp => ?_)
        obtain ⟨hu1, hR1⟩ := hp
        refine x_aload_n h dL_law_223 rfl ?_
        refine x_aload_n h dL_law_224 rfl ?_
        refine x_iload_n h dL_law_225 rfl ?_
        refine x_iconst (nI 1) h dL_law_226 (by decide) ?_
        refine y_iadd h dL_law_227 ?_
        refine x_sld h hsc dL_law_228 (by omega) ?_
        refine x_aload_n h dL_law_229 rfl ?_
        refine x_iload_n h dL_law_230 rfl ?_
        refine x_iconst (nI 2) h dL_law_231 (by decide) ?_
        refine y_iadd h dL_law_232 ?_
        refine x_sld h hsc dL_law_233 (by omega) ?_
        refine kL2_coefficient h dL_law_234 (m2_coefficient hv (xs (i + 1)) (xs (i + 2))) (Nat.le_of_ble_eq_true rfl) (fun r2 v1 hp => ?_)
        obtain ⟨hv1, hR2⟩ := hp
        have hrr : r = r2 := gp_Rcoef_det hR1 hR2
        subst hrr
        refine x_icmp_eq 340 h dL_law_237 (by decide) (fun _ => ?_) (fun q => absurd rfl q)
        exact next es u1 v1 hu1 hv1
      · refine x_tabIn 242 h dL_law_42 (by decide) (by decide) (by decide) rfl (by decide) ?_
        refine x_aload_n h dL_law_242 rfl ?_
        refine kL1_trees h dL_law_243 (m1_trees hu) (Nat.le_of_ble_eq_true rfl) (fun r u1 hp => ?_)
        obtain ⟨hu1, hR1⟩ := hp
        refine x_aload_n h dL_law_246 rfl ?_
        refine kL2_trees h dL_law_247 (m2_trees hv) (Nat.le_of_ble_eq_true rfl) (fun r2 v1 hp => ?_)
        obtain ⟨hv1, hR2⟩ := hp
        have hrr : r = r2 := hR1.trans hR2.symm
        subst hrr
        refine x_icmp_eq 340 h dL_law_250 (by decide) (fun _ => ?_) (fun q => absurd rfl q)
        exact next es u1 v1 hu1 hv1
      · refine x_tabIn 255 h dL_law_42 (by decide) (by decide) (by decide) rfl (by decide) ?_
        refine x_aload_n h dL_law_255 rfl ?_
        refine kL1_forests h dL_law_256 (m1_forests hu) (Nat.le_of_ble_eq_true rfl) (fun r u1 hp => ?_)
        obtain ⟨hu1, hR1⟩ := hp
        refine x_aload_n h dL_law_259 rfl ?_
        refine kL2_forests h dL_law_260 (m2_forests hv) (Nat.le_of_ble_eq_true rfl) (fun r2 v1 hp => ?_)
        obtain ⟨hv1, hR2⟩ := hp
        have hrr : r = r2 := hR1.trans hR2.symm
        subst hrr
        refine x_icmp_eq 340 h dL_law_263 (by decide) (fun _ => ?_) (fun q => absurd rfl q)
        exact next es u1 v1 hu1 hv1
      · refine x_tabIn 268 h dL_law_42 (by decide) (by decide) (by decide) rfl (by decide) ?_
        refine x_aload_n h dL_law_268 rfl ?_
        refine kL1_spanning h dL_law_269 (m1_spanning hu) (Nat.le_of_ble_eq_true rfl) (fun r u1 hp => ?_)
        obtain ⟨hu1, hR1⟩ := hp
        refine x_aload_n h dL_law_272 rfl ?_
        refine kL2_spanning h dL_law_273 (m2_spanning hv) (Nat.le_of_ble_eq_true rfl) (fun r2 v1 hp => ?_)
        obtain ⟨hv1, hR2⟩ := hp
        have hrr : r = r2 := hR1.trans hR2.symm
        subst hrr
        refine x_icmp_eq 340 h dL_law_276 (by decide) (fun _ => ?_) (fun q => absurd rfl q)
        exact next es u1 v1 hu1 hv1
      · refine x_tabIn 281 h dL_law_42 (by decide) (by decide) (by decide) rfl (by decide) ?_
        refine x_aload_n h dL_law_281 rfl ?_
        refine x_aload_n h dL_law_282 rfl ?_
        refine x_iload_n h dL_law_283 rfl ?_
        refine x_iconst (nI 1) h dL_law_284 (by decide) ?_
        refine y_iadd h dL_law_285 ?_
        refine x_sld h hsc dL_law_286 (by omega) ?_
        refine kL1_colourings h dL_law_287 (m1_colourings hu (xs (i + 1))) (Nat.le_of_ble_eq_true rfl) (fun r u1 hp => ?_)
        obtain ⟨hu1, hR1⟩ := hp
        refine x_aload_n h dL_law_290 rfl ?_
        refine x_aload_n h dL_law_291 rfl ?_
        refine x_iload_n h dL_law_292 rfl ?_
        refine x_iconst (nI 1) h dL_law_293 (by decide) ?_
        refine y_iadd h dL_law_294 ?_
        refine x_sld h hsc dL_law_295 (by omega) ?_
        refine kL2_colourings h dL_law_296 (m2_colourings hv (xs (i + 1))) (Nat.le_of_ble_eq_true rfl) (fun r2 v1 hp => ?_)
        obtain ⟨hv1, hR2⟩ := hp
        have hrr : r = r2 := gp_Rcol_det hR1 hR2
        subst hrr
        refine x_icmp_eq 340 h dL_law_299 (by decide) (fun _ => ?_) (fun q => absurd rfl q)
        exact next es u1 v1 hu1 hv1
      · refine x_tabIn 304 h dL_law_42 (by decide) (by decide) (by decide) rfl (by decide) ?_
        refine x_aload_n h dL_law_304 rfl ?_
        refine x_aload_n h dL_law_305 rfl ?_
        refine x_iload_n h dL_law_306 rfl ?_
        refine x_iconst (nI 1) h dL_law_307 (by decide) ?_
        refine y_iadd h dL_law_308 ?_
        refine x_sld h hsc dL_law_309 (by omega) ?_
        refine kL1_flows h dL_law_310 (m1_flows hu (xs (i + 1))) (Nat.le_of_ble_eq_true rfl) (fun r u1 hp => ?_)
        obtain ⟨hu1, hR1⟩ := hp
        refine x_aload_n h dL_law_313 rfl ?_
        refine x_aload_n h dL_law_314 rfl ?_
        refine x_iload_n h dL_law_315 rfl ?_
        refine x_iconst (nI 1) h dL_law_316 (by decide) ?_
        refine y_iadd h dL_law_317 ?_
        refine x_sld h hsc dL_law_318 (by omega) ?_
        refine kL2_flows h dL_law_319 (m2_flows hv (xs (i + 1))) (Nat.le_of_ble_eq_true rfl) (fun r2 v1 hp => ?_)
        obtain ⟨hv1, hR2⟩ := hp
        have hrr : r = r2 := gp_Rflow_det hR1 hR2
        subst hrr
        refine x_icmp_eq 340 h dL_law_322 (by decide) (fun _ => ?_) (fun q => absurd rfl q)
        exact next es u1 v1 hu1 hv1
      · refine x_tabIn 327 h dL_law_42 (by decide) (by decide) (by decide) rfl (by decide) ?_
        refine x_aload_n h dL_law_327 rfl ?_
        refine kL1_acyclic h dL_law_328 (m1_acyclic hu) (Nat.le_of_ble_eq_true rfl) (fun r u1 hp => ?_)
        obtain ⟨hu1, hR1⟩ := hp
        refine x_aload_n h dL_law_331 rfl ?_
        refine kL2_acyclic h dL_law_332 (m2_acyclic hv) (Nat.le_of_ble_eq_true rfl) (fun r2 v1 hp => ?_)
        obtain ⟨hv1, hR2⟩ := hp
        have hrr : r = r2 := hR1.trans hR2.symm
        subst hrr
        refine x_icmp_eq 340 h dL_law_335 (by decide) (fun _ => ?_) (fun q => absurd rfl q)
        exact next es u1 v1 hu1 hv1
      · refine x_tabOut 340 h dL_law_42 (by omega) (Or.inr (by omega)) (by decide) ?_
        exact next es u v hu hv
end
section
set_option maxRecDepth 100000
set_option maxHeartbeats 4000000 in
/-- cell(script, 0): the script's first int, or 0 -/
theorem met_cell (l : Launch) (b L sz : Nat) (xs : Nat → Int32) (hL : L ≤ 193) : Met l yX0_cell (ws_ yX0_cell cX0_cell 2 (some .int)) ({ frames := 0, cells := 0, slots := 0, locals := 0 }) (va_Pc [.ref b, .int (nI 0)] (fun U => U.heap.size = sz ∧ b < sz ∧ va_X b L xs U U.heap)) (va_Qi (fun (r : Int32) (_ : Unit) => r = if 0 < L then xs 0 else nI 0) (fun _ _ => True) (fun q => sz ≤ q)) 0 0 (fun q => sz ≤ q) := by
  refine Met.ofW (cc := cX0_cell) (maxL := 2) (ret := some .int) (by decide +kernel) rfl ?_
  intro p e s m args below meth c s₁ B hml hv
  obtain ⟨rfl, hsz, hbl, hX⟩ := hv
  have hx := B.exec
  have hb := B.bytes
  have hr := B.returns
  have hlocks := B.notSynchronized
  subst hsz
  have hS : va_S (fun q : Nat => s.heap.size ≤ q) s.heap s.heap [] := va_S.rf
  have hbA : ¬ (fun q : Nat => s.heap.size ≤ q) b := Nat.not_le.mpr hbl
  have hl := lv_entry ([.ref b, .int (nI 0)]) (n := 2) (Nat.le_of_ble_eq_true rfl)
  rw [lg_entry_eq]
  generalize (lg_sl ([.ref b, .int (nI 0)]) ++ List.replicate (2 - (lg_sl ([.ref b, .int (nI 0)])).length) Slot.unset).toArray = ls at hl ⊢
  have hl : lv_has ls 2 [(0, .ref b), (1, .int (nI 0))] := hl
  refine lv_iload_n hx hb dX0_cell_0 rfl (lv_at hl 1 rfl) ?_
  refine lv_aload_n hx hb dX0_cell_1 rfl (lv_at hl 0 rfl) ?_
  refine va_slen hx hb hX hbl hbA hS dX0_cell_2 ?_
  refine lv_icmp_ge (tgt := 12) hx hb dX0_cell_3 (by decide) (fun c0 => ?_) (fun c0 => ?_)
  · have h0 : L ≤ 0 := (n_le (by omega) (by omega)).mp (show nI L ≤ nI 0 from c0)
    refine lv_iconst (v := nI 0) hx hb dX0_cell_12 (by decide) ?_
    exact W.iret (v := nI 0) hx hb hr (fun t ht hW => ⟨⟨nI 0, (), rfl, by rw [if_neg (by omega)], trivial⟩, hS.F ht⟩) hS.2.2 dX0_cell_13
  · have h0 : 0 < L := by
      apply Classical.byContradiction
      intro q
      exact c0 (show nI L ≤ nI 0 from (n_le (by omega) (by omega)).mpr (by omega))
    refine lv_aload_n hx hb dX0_cell_6 rfl (lv_at hl 0 rfl) ?_
    refine lv_iload_n hx hb dX0_cell_7 rfl (lv_at hl 1 rfl) ?_
    refine va_sld hx hb hX hbl hbA hS (vp_in_nI h0 (by omega)) dX0_cell_8 ?_
    refine lv_goto (tgt := 13) hx hb dX0_cell_9 (by decide) ?_
    rw [nI_clamp (by decide)]
    exact W.iret (v := xs 0) hx hb hr (fun t ht hW => ⟨⟨xs 0, (), rfl, by rw [if_pos h0], trivial⟩, hS.F ht⟩) hS.2.2 dX0_cell_13
theorem lx_of4 {ls : Array Slot} {v0 v1 v2 v3 : Value} (h : lv_has ls 4 [(3, v3), (2, v2), (1, v1), (0, v0)]) : lx_has ls 4 [some v0, some v1, some v2, some v3] := by
  refine ⟨rfl, h.1, h.2.1, fun i v hi => ?_⟩
  match i, hi with
  | 0, hi => cases hi; exact lv_at h 3 rfl
  | 1, hi => cases hi; exact lv_at h 2 rfl
  | 2, hi => cases hi; exact lv_at h 1 rfl
  | 3, hi => cases hi; exact lv_at h 0 rfl
  | i + 4, hi => simp at hi
theorem GS_cell : GoodIn lw_all (va_wsS RX0 9 yX0_cell (ws_ yX0_cell cX0_cell 2 (some .int))) := lw_S q153 q154 q23 q155
set_option maxHeartbeats 4000000 in
/-- from the entry, for every script of at most 193 ints, the law comes to its end with true -/
theorem whole_start {p : Program} {e : Env} {s : State} {m : MethodId} {below : List Frame} {meth : Method} {c : Code} (l : Launch) {b L : Nat} {xs : Nat → Int32} (hL : L ≤ 193) (C0 : lw_At p s m meth c b L xs) : W p l e room_1 s m #[Value.ref b] below meth c s.heap [] 0 0 (lw_Z below #[Value.ref b] s) (entryFrame m ([Value.ref b] : List Value).toArray 4) := by
  obtain ⟨hx, hb, hr, hml, hown, hts0, hX, hbl, hlocks, hgv⟩ := id C0
  have hts : ∀ w ∈ lw_all, w.before #[Value.ref b] s = true := fun w h => hts0 w (lw_all_tbl h)
  have hb : c.code = cL_law := hb
  have hown : s.vm.findClass RX0 = some m.cls := hown
  have hA : ∀ q : Nat, s.heap.size ≤ q → (fun q : Nat => s.heap.size ≤ q) q := fun _ h => h
  have hbA : ¬ (fun q : Nat => s.heap.size ≤ q) b := Nat.not_le.mpr hbl
  obtain ⟨c0, iS0, hKn0⟩ := u_known (C := RX1) (T := TX1) (N := 11) (n := 11) hts in_X1 (hts _ q27)
  obtain ⟨c1, iS1, hKn1⟩ := u_known (C := RX2) (T := TX2) (N := 7) (n := 7) hts in_X2 (hts _ q157)
  obtain ⟨D, hKc⟩ : ∃ (D : va_G), ∀ (k : Nat) (q : vw_C), vwCl[k]? = some q → u_Kn s q.1 q.2.1 q.2.2 (D.1 k) (D.2 k) := by
    refine ⟨(fun k => if k = 0 then c0 else c1, fun k => if k = 0 then iS0 else iS1), ?_⟩
    intro k q hq
    match k, hq with
    | 0, hq => cases hq; exact hKn0
    | 1, hq => cases hq; exact hKn1
    | k + 2, hq => simp [vwCl] at hq
  have hS : va_S (fun q : Nat => s.heap.size ≤ q) s.heap s.heap [] := va_S.rf
  have hK : va_K D vwCl [] s := ⟨hKc, fun k q h => by simp at h⟩
  have hP : va_P D vwCl [] s.heap := fun k q h => by simp at h
  have hD : va_D (fun q : Nat => s.heap.size ≤ q) [] := ⟨fun i j p q h => by simp at h, fun k q h => by simp at h⟩
  have hl := lv_entry ([.ref b]) (n := 4) (Nat.le_of_ble_eq_true rfl)
  rw [lg_entry_eq]
  generalize (lg_sl ([.ref b]) ++ List.replicate (4 - (lg_sl ([.ref b])).length) Slot.unset).toArray = ls at hl ⊢
  have hl : lv_has ls 4 [(0, .ref b)] := hl
  generalize hx0 : (if 0 < L then xs 0 else nI 0) = x0
  -- the component
  refine va_new (ci := 0) (fs := [.int 0, .int 0, .null, .null, .int 0, .null, .int 0, .null, .null, .null, .null]) (C := RX1) (T := TX1) (N := 11) hx hb hts in_X1 tyX1 tyX1_ok hown (hts _ q26) (hts _ q27) (hts _ q24) hK hP hD hS hA rfl (fun j hj => by rcases (show j = 0 ∨ j = 1 ∨ j = 2 ∨ j = 3 ∨ j = 4 ∨ j = 5 ∨ j = 6 ∨ j = 7 ∨ j = 8 ∨ j = 9 ∨ j = 10 by omega) with rfl | rfl | rfl | rfl | rfl | rfl | rfl | rfl | rfl | rfl | rfl <;> rfl) (Nat.le_of_ble_eq_true rfl) (Nat.le_of_ble_eq_true rfl) dL_law_0 (fun o1 H hP hD hS => ?_)
  have hP : va_P D vwCl [(o1, .inr (0, [.int 0, .int 0, .null, .null, .int 0, .null, .int 0, .null, .null, .null, .null]))] H := hP
  have hD : va_D (fun q : Nat => s.heap.size ≤ q) [(o1, .inr (0, [.int 0, .int 0, .null, .null, .int 0, .null, .int 0, .null, .null, .null, .null]))] := hD
  refine W.widen (k := 1) (n := 11) (by decide) (by decide) ?_
  refine lv_dup hx hb dL_law_3 rfl ?_
  refine lv_aload_n hx hb dL_law_4 rfl (lv_at hl 0 rfl) ?_
  refine lv_iconst (v := nI 0) hx hb dL_law_5 (by decide) ?_
  have hXH : va_X b L xs s H := hX.kept (hS.2.1 b hbl hbA)
  refine va_calli (va_runS (As := [.ref b, .int (nI 0)]) (rest := [.ref o1, .ref o1]) ⟨hx, hb, hml, hown, hts⟩ (met_cell l b L H.size xs hL) (va_cwS 2 hts GS_cell rfl rfl rfl (by decide +kernel) ⟨Nat.le_of_ble_eq_true rfl, Nat.le_of_ble_eq_true rfl⟩) ⟨fun a U g mk q => by obtain ⟨q0, q1, q2, q3⟩ := q; exact ⟨q0, q1, q2, va_X.moved (u := U) (U := U.calling g mk a) (Vm.Alike.refl U.vm) q3⟩, fun U hU hW => ⟨rfl, by rw [hU], Nat.lt_of_lt_of_le hbl hS.1, by rw [hU]; exact va_X.moved hW.alike hXH⟩⟩ rfl rfl hl.1 rfl (lv_room (Nat.le_of_ble_eq_true rfl)) dL_law_6 ⟨Nat.le_of_ble_eq_true rfl, Nat.le_of_ble_eq_true rfl⟩) hS (fun q _ h => Nat.le_trans hS.1 h) (fun q h => Nat.le_trans hS.1 h) (fun r u t H1 locs ht hvm hw hB hz1 hk1 hS => ?_)
  have hw : r = x0 := hw.trans hx0
  subst hw
  have hP : va_P D vwCl [(o1, .inr (0, [.int 0, .int 0, .null, .null, .int 0, .null, .int 0, .null, .null, .null, .null]))] H1 := hP.kept (fun k q hq => hk1 q.1 (hP k q hq).lt (Nat.not_le.mpr (hP k q hq).lt))
  generalize H1 = H at hP hS ⊢
  have hPc := hP
  have hDc := hD
  have hKc := hK
  have hFc := va_free (wc := [(o1, .inr (0, [.int 0, .int 0, .null, .null, .int 0, .null, .int 0, .null, .null, .null, .null]))]) hD hS hA [0] rfl
  refine va_callv (va_runI (As := [.int r]) (rest := [.ref o1]) ⟨hx, hb, hml, hown, hts⟩ (metX1_init l D o1 H.size r) (cwI 1 hts (lw_meth q30) rfl rfl rfl (hts _ q24) (hts _ q28) (hts _ q29) rfl (by decide +kernel) ⟨Nat.le_of_ble_eq_true rfl, Nat.le_of_ble_eq_true rfl⟩) ⟨fun a U g mk q => by obtain ⟨q0, q1, qP, qK, qD⟩ := q; exact ⟨q0, q1, qP, va_K.moved (u := U) (U := U.calling g mk a) (Vm.Alike.refl U.vm) qK, qD⟩, fun U hU hW => ⟨rfl, by rw [hU], by rw [hU]; exact hPc, va_K.moved hW.alike hKc, hDc.weaken (fun _ _ _ _ => trivial)⟩⟩ rfl rfl hl.1 rfl (lv_room (Nat.le_of_ble_eq_true rfl)) dL_law_9 ⟨Nat.le_of_ble_eq_true rfl, Nat.le_of_ble_eq_true rfl⟩) hS (fun q _ h => hFc q h) hFc (fun u t H1 locs ht hvm hw hB hz1 hk1 hS => ?_)
  obtain ⟨a, d, u⟩ := u
  obtain ⟨ha0, hu⟩ : a 0 = o1 ∧ G1 (gp_cl r) [] u := hw
  subst ha0
  obtain ⟨hP1, hK1, hD1⟩ := hB
  rw [ht] at hP1
  have hP : va_P D vwCl (w1 a d u) H1 := hP1
  have hD : va_D (fun q : Nat => s.heap.size ≤ q) (w1 a d u) := hD1.weaken (fun _ q _ hq => hFc q.1 hq)
  have hK : va_K D vwCl (t1 d) s := va_K.moved hvm.symm hK1
  generalize H1 = H at hP hS ⊢
  clear hP1 hD1 hK1 hPc hDc hFc hXH
  refine W.widen (k := 8) (n := 156) (by decide) (by decide) ?_
  refine lv_astore_n (lv' := [(1, .ref (a 0)), (0, .ref b)]) hx hb dL_law_12 rfl hl (by decide) rfl (fun ls hl => ?_)
  -- the reference
  refine va_new (ci := 1) (fs := [.int 0, .int 0, .null, .null, .null, .null, .null]) (C := RX2) (T := TX2) (N := 7) hx hb hts in_X2 tyX2 tyX2_ok hown (hts _ q156) (hts _ q157) (hts _ q25) hK hP hD hS hA rfl (fun j hj => by rcases (show j = 0 ∨ j = 1 ∨ j = 2 ∨ j = 3 ∨ j = 4 ∨ j = 5 ∨ j = 6 by omega) with rfl | rfl | rfl | rfl | rfl | rfl | rfl <;> rfl) (Nat.le_of_ble_eq_true rfl) (Nat.le_of_ble_eq_true rfl) dL_law_13 (fun o2 H hP hD hS => ?_)
  refine W.widen (k := 9) (n := 163) (by decide) (by decide) ?_
  refine lv_dup hx hb dL_law_16 rfl ?_
  refine lv_aload_n hx hb dL_law_17 rfl (lv_at hl 1 rfl) ?_
  refine lv_iconst (v := nI 0) hx hb dL_law_18 (by decide) ?_
  have hXH : va_X b L xs s H := hX.kept (hS.2.1 b hbl hbA)
  refine va_calli (va_runS (As := [.ref b, .int (nI 0)]) (rest := [.ref o2, .ref o2]) ⟨hx, hb, hml, hown, hts⟩ (met_cell l b L H.size xs hL) (va_cwS 2 hts GS_cell rfl rfl rfl (by decide +kernel) ⟨Nat.le_of_ble_eq_true rfl, Nat.le_of_ble_eq_true rfl⟩) ⟨fun a U g mk q => by obtain ⟨q0, q1, q2, q3⟩ := q; exact ⟨q0, q1, q2, va_X.moved (u := U) (U := U.calling g mk a) (Vm.Alike.refl U.vm) q3⟩, fun U hU hW => ⟨rfl, by rw [hU], Nat.lt_of_lt_of_le hbl hS.1, by rw [hU]; exact va_X.moved hW.alike hXH⟩⟩ rfl rfl hl.1 rfl (lv_room (Nat.le_of_ble_eq_true rfl)) dL_law_19 ⟨Nat.le_of_ble_eq_true rfl, Nat.le_of_ble_eq_true rfl⟩) hS (fun q _ h => Nat.le_trans hS.1 h) (fun q h => Nat.le_trans hS.1 h) (fun r2 u0 t H1 locs ht hvm hw hB hz1 hk1 hS => ?_)
  have hw : r2 = r := hw.trans hx0
  subst hw
  have hP : va_P D vwCl (w1 a d u ++ [(o2, .inr (1, [.int 0, .int 0, .null, .null, .null, .null, .null]))]) H1 := hP.kept (fun k q hq => hk1 q.1 (hP k q hq).lt (Nat.not_le.mpr (hP k q hq).lt))
  generalize H1 = H at hP hS ⊢
  have hPc := hP.sub (ws' := [(o2, .inr (1, [.int 0, .int 0, .null, .null, .null, .null, .null]))]) [8] rfl
  have hDc := hD.sub (ws' := [(o2, .inr (1, [.int 0, .int 0, .null, .null, .null, .null, .null]))]) [8] (by decide) rfl
  have hKc := hK.sub (tys' := []) [] rfl
  have hFc := va_free (wc := [(o2, .inr (1, [.int 0, .int 0, .null, .null, .null, .null, .null]))]) hD hS hA [8] rfl
  refine va_callv (va_runI (As := [.int r2]) (rest := [.ref o2]) ⟨hx, hb, hml, hown, hts⟩ (metX2_init l D o2 H.size r2) (cwI 1 hts (lw_meth q160) rfl rfl rfl (hts _ q25) (hts _ q158) (hts _ q159) rfl (by decide +kernel) ⟨Nat.le_of_ble_eq_true rfl, Nat.le_of_ble_eq_true rfl⟩) ⟨fun a U g mk q => by obtain ⟨q0, q1, qP, qK, qD⟩ := q; exact ⟨q0, q1, qP, va_K.moved (u := U) (U := U.calling g mk a) (Vm.Alike.refl U.vm) qK, qD⟩, fun U hU hW => ⟨rfl, by rw [hU], by rw [hU]; exact hPc, va_K.moved hW.alike hKc, hDc.weaken (fun _ _ _ _ => trivial)⟩⟩ rfl rfl hl.1 rfl (lv_room (Nat.le_of_ble_eq_true rfl)) dL_law_22 ⟨Nat.le_of_ble_eq_true rfl, Nat.le_of_ble_eq_true rfl⟩) hS (fun q _ h => hFc q h) hFc (fun v t H1 locs ht hvm hw hB hz1 hk1 hS => ?_)
  obtain ⟨b2, g, v⟩ := v
  obtain ⟨hb0, hv⟩ : b2 0 = o2 ∧ G2 (gp_cl r2) [] v := hw
  subst hb0
  obtain ⟨hP1, hK1, hD1⟩ := hB
  rw [ht] at hP1
  have hK1 : va_K D vwCl (t2 g) s := va_K.moved hvm.symm hK1
  obtain ⟨hP, hD⟩ := va_join (wr := w1 a d u) (w1 := w2 b2 g v) hP hD [8] [0, 1, 2, 3, 4, 5, 6, 7] rfl rfl (by decide) (by decide) hk1 hFc hP1 hD1
  have hK : va_K D vwCl (t1 d ++ t2 g) s := hK.app hK1
  generalize H1 = H at hP hS ⊢
  refine W.widen (k := 14) (n := 274) (by decide) (by decide) ?_
  refine lv_astore_n (lv' := [(2, .ref (b2 0)), (1, .ref (a 0)), (0, .ref b)]) hx hb dL_law_25 rfl hl (by decide) rfl (fun ls hl => ?_)
  refine lv_iconst (v := nI 1) hx hb dL_law_26 (by decide) ?_
  refine lv_istore_n (lv' := [(3, .int (nI 1)), (2, .ref (b2 0)), (1, .ref (a 0)), (0, .ref b)]) hx hb dL_law_27 rfl hl (by decide) rfl (fun ls hl => ?_)
  have hret : ∀ (ws : va_W) (lv : List (Option Value)), JJ (p, l, e, room_1, s, m, #[Value.ref b], below, meth, c, lw_Z below #[Value.ref b] s, D, (fun q : Nat => s.heap.size ≤ q), 4, 14, 274) ws lv 347 [.int 1] := by
    intro ws lv H locs ls hP hD hS hl
    refine W.widen (k := 600000) (n := 7290000) (by decide) (by decide) ?_
    refine va_forget (fun q hq => hS.2.2 q hq) ?_
    exact lw_ret hx hb hr hlocks dL_law_347
  exact law_loop (X := (p, l, e, room_1, s, m, #[Value.ref b], below, meth, c, lw_Z below #[Value.ref b] s, D, (fun q : Nat => s.heap.size ≤ q), 4, 14, 274)) ⟨hx, hb, hml, hown, hts, hK, hA, Nat.le_refl _, Nat.le_refl _, Nat.le_of_ble_eq_true rfl, Nat.le_of_ble_eq_true rfl⟩ ⟨hX, hbl, hbA, hL⟩ hL hret (gp_cl_eq r2).2.2 (L + 1) 1 [] u v (by omega) (by omega) hu hv H locs ls hP hD hS (lx_of4 hl)
end
section
set_option maxRecDepth 100000
set_option maxHeartbeats 4000000 in
theorem lw_walk (l : Launch) (b : Addr) (xs : List Int32) : MetFree l x (headSpec (Jvm.Cond.code x code maxLocals ret :: tables_1) room_1) (lw_P b xs) (fun _ _ _ _ _ => True) lw_Q := by
  refine MetFree.of_bodyS (code := code) (maxLocals := maxLocals) (ret := ret) (by decide) ?_ ?_
  · intro args s m h hn
    obtain ⟨meth, c, h1, h2, h3, h4, h5, h6, -, -⟩ := Cond.code_spec hn (atoms_spec (ws := Jvm.Cond.code x code maxLocals ret :: tables_1) h _ List.mem_cons_self)
    exact ⟨meth, c, h1, h2, h3, h4, h5, h6⟩
  · intro p e s m args below meth c s₁ B hml0 hP _
    obtain ⟨rfl, hx, hbd, hgv⟩ := hP
    obtain ⟨scr, harrAt, hlist, hof, hsmall⟩ := hx
    obtain ⟨hcb, hkn, -, -⟩ := State.arrayAt?_spec harrAt
    have hown : s.vm.findClass R_law = some m.cls := findClass_of_methodNamed B.named
    have hts0 : ∀ c ∈ (Jvm.Cond.code x code maxLocals ret :: tables_1), c.before #[Value.ref b] s = true := atoms_spec (ws := Jvm.Cond.code x code maxLocals ret :: tables_1) B.pre
    have hts : ∀ w ∈ lw_tbl, w.before #[Value.ref b] s = true := k2_hts_sels lw_privs (fun w hw => hts0 w (List.mem_cons_of_mem _ hw)) lw_privs_ok
    have hml : c.maxLocals = 4 := B.maxLocals_eq (hts0 _ List.mem_cons_self)
    have X₀ : Stand p l e room_1 s m #[Value.ref b] below meth c s₁ [] 0 0 := Stand.of_body B
    have hh0 : s₁.heap = s.heap := by rw [B.state]; rfl
    have hsz : scr.slots.size = xs.length := by rw [← Array.length_toList, hlist, List.length_map]
    have hval : ∀ j : Nat, j < xs.length → scr.slots[j]? = some (.int (xs.getD j 0)) := fun j hj => by
      rw [← Array.getElem?_toList, hlist]
      simp [hj]
    have hbl : b < s.heap.size := (Array.getElem?_eq_some_iff.mp hcb).1
    have hX : va_X b xs.length (fun j => xs.getD j 0) s s.heap := ⟨scr, hcb, hof, hkn, hsz, hval⟩
    have K : W p l e room_1 s m #[Value.ref b] below meth c s₁.heap [] 0 0 (lw_Z below #[Value.ref b] s) (entryFrame m ([Value.ref b] : List Value).toArray 4) := by
      rw [hh0]
      exact whole_start l hbd ⟨B.exec, B.bytes, B.returns, hml, hown, hts, hX, hbl, B.notSynchronized, hgv⟩
    obtain ⟨t, a1, o, b1, b2, b3⟩ := K s₁ rfl X₀
    exact ⟨t, o, a1, b1, b2, b3⟩
theorem lw_pre_spec {args : Array Value} {s : State} (h : (Jvm.Cond.and given_1 narrow_1).before args s = true) (hr : rest_1_c.before args s = true) : ∃ (b : Addr) (xs : List Int32), lw_P b xs args s := by
  have hs := flat_of_before _ h
  have hq := flat_of_before _ hr
  have hc : (Cond.count 1).before args s = true := hs _ (by decide +kernel)
  have harr : (Cond.arrayOf (.arg 0) .int).before args s = true := hs _ (by decide +kernel)
  have hle : (Cond.le (.length (.arg 0)) (.int 193)).before args s = true := hs _ (by decide +kernel)
  have hlen : (Cond.isInt (.length (.arg 0))).before args s = true := hq _ (by decide +kernel)
  have hall : (Cond.all (.arg 0) (.isInt (.elem (.arg 0) (.index 0)))).before args s = true := hq _ (by decide +kernel)
  obtain ⟨b, xs, hb, hx⟩ := State.ints_of_pre rfl harr hlen hall
  have hsm : xs.length < 2 ^ 31 := hx.choose_spec.2.2.2
  have hev : (Term.length (.arg 0)).eval args s none [] s = some (.int xs.length.toInt32) := hx.length_eval hb
  have hv := Cond.le_ints hev (show (Term.int 193).eval args s none [] s = some (.int 193) from rfl)
  have hd : xs.length.toInt32 ≤ 193 := by
    simpa [Cond.before, Cond.holds, hv] using hle
  have hN : xs.length ≤ 193 := (Int32.ofNat_le_ofNat hsm (by decide)).mp (show Int32.ofNat xs.length ≤ Int32.ofNat 193 from hd)
  exact ⟨b, xs, Cond.one_arg hc (show args[0]? = some (.ref b) from hb), hx, hN, h⟩
theorem lw_comes (l : Launch) : Comes l x (Jvm.Cond.code x code maxLocals ret :: tables_1) room_1 (fun tb e args s => Calls_1 tb e args s ∧ rest_1 tb e args s ∧ Pre_1 tb e args s)
    (fun _ _ args s o t => lw_Q args s o t) := by
  intro p e ha hc hk s m args below hf hfit hheap happ hpre
  obtain ⟨b, xs, hP⟩ := lw_pre_spec hpre.2.2 hpre.2.1
  obtain ⟨k, o, h1, h2, h3, hQ⟩ := lw_walk l b xs p e ha hc hk s m args below hf ((Spec.applies_iff_loose hf).mp happ).1 hP trivial
  exact ⟨k, o, h1, h2, h3, hQ⟩
theorem lw_frame {s t : State} {o : Outcome} {args : Array Value} (h : Framed s o t [] 600000 7290000) :
    Framed s o t (fieldLocs frame_1_writes args s ++ arrayLocs frame_1_arrays args s ++ staticLocs frame_1_statics s) 600000 7290000 := h
theorem lw_limb (L : Cond) (hL : ∀ (args : Array Value) (s t : State), L.after args s (.returned (some (.int 1))) t = true) :
    ArmFor flags0 classFile x code maxLocals ret World_1 tables_1 room_1 Calls_1 rest_1 Pre_1
      (fun tb e a s o t => postC L tb e a s o t ∧ Framed s o t (fieldLocs frame_1_writes a s ++ arrayLocs frame_1_arrays a s ++ staticLocs frame_1_statics s) 600000 7290000) := by
  intro l _ _ _ p e ha hc hk s m args below hf hfit hheap happ hpre
  obtain ⟨k, o, h1, h2, h3, rfl, hF⟩ := lw_comes l p e ha hc hk s m args below hf hfit hheap happ hpre
  exact ⟨k, _, h1, h2, h3, hL args s _, lw_frame hF⟩
theorem i_vc : Claimed_1_1 ∧ Claimed_1_2 := ⟨lw_limb limb_1_1 (fun args s t => by simp [limb_1_1, Cond.after, Cond.holds, Cond.value]), lw_limb limb_1_2 (fun args s t => Cond.after_iff.mpr (by
  first | (rw [show limb_1_2 = Cond.eq .result (.int 1) from rfl, Cond.eq_ints (x := 1) (y := 1) rfl rfl]; simp; done) | (simp [limb_1_2, Cond.value, Term.eval]; done)))⟩
end
