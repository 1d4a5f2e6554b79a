section
section
/-- a private method of a class that the tables say can be made, by its rows of tables_1 -/
def lw_okq (q : MethodName × Nat) : Prop := (q.1.cls ≠ "java/lang/invoke/MethodHandle" ∧ q.1.cls ≠ "java/lang/invoke/VarHandle") ∧ Cond.instantiable q.1.cls q.2 ∈ tables_1 ∧ Cond.privateMethod q.1 ∈ tables_1 ∧ Cond.instanceMethod q.1 ∈ tables_1
set_option maxRecDepth 100000
theorem lw_t1 {w : Cond} (h : w ∈ tables_1_1) : w ∈ tables_1 := List.mem_append_left _ h
theorem lw_t2 {w : Cond} (h : w ∈ tables_1_2) : w ∈ tables_1 := List.mem_append_right _ h
theorem lw_p0 : lw_okq (⟨"AcyclicJoins", "badRow", "(III)Z"⟩, 9) := ⟨⟨by decide +kernel, by decide +kernel⟩, lw_t1 (List.mem_of_getElem? (i := 4) rfl), lw_t1 (List.mem_of_getElem? (i := 45) rfl), lw_t1 (List.mem_of_getElem? (i := 46) rfl)⟩
theorem lw_p1 : lw_okq (⟨"AcyclicJoins", "there", "(III)Z"⟩, 9) := ⟨⟨by decide +kernel, by decide +kernel⟩, lw_t1 (List.mem_of_getElem? (i := 4) rfl), lw_t1 (List.mem_of_getElem? (i := 49) rfl), lw_t1 (List.mem_of_getElem? (i := 50) rfl)⟩
theorem lw_p2 : lw_okq (⟨"AcyclicJoins", "pass", "()V"⟩, 9) := ⟨⟨by decide +kernel, by decide +kernel⟩, lw_t1 (List.mem_of_getElem? (i := 4) rfl), lw_t1 (List.mem_of_getElem? (i := 69) rfl), lw_t1 (List.mem_of_getElem? (i := 70) rfl)⟩
theorem lw_p3 : lw_okq (⟨"AcyclicJoins", "sizeOf", "(I)I"⟩, 9) := ⟨⟨by decide +kernel, by decide +kernel⟩, lw_t1 (List.mem_of_getElem? (i := 4) rfl), lw_t1 (List.mem_of_getElem? (i := 73) rfl), lw_t1 (List.mem_of_getElem? (i := 74) rfl)⟩
theorem lw_p4 : lw_okq (⟨"AcyclicJoins", "behind", "(I)I"⟩, 9) := ⟨⟨by decide +kernel, by decide +kernel⟩, lw_t1 (List.mem_of_getElem? (i := 4) rfl), lw_t1 (List.mem_of_getElem? (i := 77) rfl), lw_t1 (List.mem_of_getElem? (i := 78) rfl)⟩
theorem lw_p5 : lw_okq (⟨"AcyclicJoins", "walk", "(IIII)I"⟩, 9) := ⟨⟨by decide +kernel, by decide +kernel⟩, lw_t1 (List.mem_of_getElem? (i := 4) rfl), lw_t1 (List.mem_of_getElem? (i := 86) rfl), lw_t1 (List.mem_of_getElem? (i := 87) rfl)⟩
theorem lw_p6 : lw_okq (⟨"AcyclicJoins", "badCode", "(I)Z"⟩, 9) := ⟨⟨by decide +kernel, by decide +kernel⟩, lw_t1 (List.mem_of_getElem? (i := 4) rfl), lw_t1 (List.mem_of_getElem? (i := 94) rfl), lw_t1 (List.mem_of_getElem? (i := 95) rfl)⟩
theorem lw_p7 : lw_okq (⟨"AcyclicJoins", "below", "(IIIII)I"⟩, 9) := ⟨⟨by decide +kernel, by decide +kernel⟩, lw_t1 (List.mem_of_getElem? (i := 4) rfl), lw_t1 (List.mem_of_getElem? (i := 102) rfl), lw_t1 (List.mem_of_getElem? (i := 103) rfl)⟩
theorem lw_p8 : lw_okq (⟨"AcyclicJoins", "share", "(III)I"⟩, 9) := ⟨⟨by decide +kernel, by decide +kernel⟩, lw_t1 (List.mem_of_getElem? (i := 4) rfl), lw_t1 (List.mem_of_getElem? (i := 110) rfl), lw_t1 (List.mem_of_getElem? (i := 111) rfl)⟩
theorem lw_p9 : lw_okq (⟨"AcyclicJoins", "inColumn", "(II)I"⟩, 9) := ⟨⟨by decide +kernel, by decide +kernel⟩, lw_t1 (List.mem_of_getElem? (i := 4) rfl), lw_t1 (List.mem_of_getElem? (i := 126) rfl), lw_t1 (List.mem_of_getElem? (i := 127) rfl)⟩
theorem lw_p10 : lw_okq (⟨"AcyclicJoins", "endsOf", "(I)I"⟩, 9) := ⟨⟨by decide +kernel, by decide +kernel⟩, lw_t1 (List.mem_of_getElem? (i := 4) rfl), lw_t1 (List.mem_of_getElem? (i := 138) rfl), lw_t1 (List.mem_of_getElem? (i := 139) rfl)⟩
theorem lw_p11 : lw_okq (⟨"AcyclicJoinsModel", "isRow", "(III)Z"⟩, 3) := ⟨⟨by decide +kernel, by decide +kernel⟩, lw_t1 (List.mem_of_getElem? (i := 146) rfl), lw_t1 (List.mem_of_getElem? (i := 167) rfl), lw_t1 (List.mem_of_getElem? (i := 168) rfl)⟩
theorem lw_p12 : lw_okq (⟨"AcyclicJoinsModel", "isValue", "(I)Z"⟩, 3) := ⟨⟨by decide +kernel, by decide +kernel⟩, lw_t1 (List.mem_of_getElem? (i := 146) rfl), lw_t1 (List.mem_of_getElem? (i := 171) rfl), lw_t1 (List.mem_of_getElem? (i := 172) rfl)⟩
theorem lw_p13 : lw_okq (⟨"AcyclicJoinsModel", "isAnswer", "(I)Z"⟩, 3) := ⟨⟨by decide +kernel, by decide +kernel⟩, lw_t1 (List.mem_of_getElem? (i := 146) rfl), lw_t1 (List.mem_of_getElem? (i := 192) rfl), lw_t1 (List.mem_of_getElem? (i := 193) rfl)⟩
theorem lw_p14 : lw_okq (⟨"AcyclicJoinsModel", "rowOf", "(II)I"⟩, 3) := ⟨⟨by decide +kernel, by decide +kernel⟩, lw_t1 (List.mem_of_getElem? (i := 146) rfl), lw_t1 (List.mem_of_getElem? (i := 196) rfl), lw_t1 (List.mem_of_getElem? (i := 197) rfl)⟩
theorem lw_p15 : lw_okq (⟨"AcyclicJoinsModel", "valueIn", "(II)I"⟩, 3) := ⟨⟨by decide +kernel, by decide +kernel⟩, lw_t1 (List.mem_of_getElem? (i := 146) rfl), lw_t1 (List.mem_of_getElem? (i := 200) rfl), lw_t1 (List.mem_of_getElem? (i := 201) rfl)⟩
def lw_privs_1 : List (MethodName × Nat) := [(⟨"AcyclicJoins", "badRow", "(III)Z"⟩, 9), (⟨"AcyclicJoins", "there", "(III)Z"⟩, 9), (⟨"AcyclicJoins", "pass", "()V"⟩, 9), (⟨"AcyclicJoins", "sizeOf", "(I)I"⟩, 9), (⟨"AcyclicJoins", "behind", "(I)I"⟩, 9), (⟨"AcyclicJoins", "walk", "(IIII)I"⟩, 9), (⟨"AcyclicJoins", "badCode", "(I)Z"⟩, 9), (⟨"AcyclicJoins", "below", "(IIIII)I"⟩, 9), (⟨"AcyclicJoins", "share", "(III)I"⟩, 9), (⟨"AcyclicJoins", "inColumn", "(II)I"⟩, 9), (⟨"AcyclicJoins", "endsOf", "(I)I"⟩, 9), (⟨"AcyclicJoinsModel", "isRow", "(III)Z"⟩, 3), (⟨"AcyclicJoinsModel", "isValue", "(I)Z"⟩, 3), (⟨"AcyclicJoinsModel", "isAnswer", "(I)Z"⟩, 3), (⟨"AcyclicJoinsModel", "rowOf", "(II)I"⟩, 3), (⟨"AcyclicJoinsModel", "valueIn", "(II)I"⟩, 3)]
theorem lw_r1 : ∀ q ∈ lw_privs_1, lw_okq q := List.forall_mem_cons.mpr ⟨lw_p0, List.forall_mem_cons.mpr ⟨lw_p1, List.forall_mem_cons.mpr ⟨lw_p2, List.forall_mem_cons.mpr ⟨lw_p3, List.forall_mem_cons.mpr ⟨lw_p4, List.forall_mem_cons.mpr ⟨lw_p5, List.forall_mem_cons.mpr ⟨lw_p6, List.forall_mem_cons.mpr ⟨lw_p7, List.forall_mem_cons.mpr ⟨lw_p8, List.forall_mem_cons.mpr ⟨lw_p9, List.forall_mem_cons.mpr ⟨lw_p10, List.forall_mem_cons.mpr ⟨lw_p11, List.forall_mem_cons.mpr ⟨lw_p12, List.forall_mem_cons.mpr ⟨lw_p13, List.forall_mem_cons.mpr ⟨lw_p14, List.forall_mem_cons.mpr ⟨lw_p15, fun _ h => absurd h List.not_mem_nil⟩⟩⟩⟩⟩⟩⟩⟩⟩⟩⟩⟩⟩⟩⟩⟩
theorem lw_p16 : lw_okq (⟨"AcyclicJoinsModel", "code", "(I)I"⟩, 3) := ⟨⟨by decide +kernel, by decide +kernel⟩, lw_t1 (List.mem_of_getElem? (i := 146) rfl), lw_t1 (List.mem_of_getElem? (i := 208) rfl), lw_t1 (List.mem_of_getElem? (i := 209) rfl)⟩
theorem lw_p17 : lw_okq (⟨"AcyclicJoinsModel", "isCode", "(I)Z"⟩, 3) := ⟨⟨by decide +kernel, by decide +kernel⟩, lw_t1 (List.mem_of_getElem? (i := 146) rfl), lw_t1 (List.mem_of_getElem? (i := 216) rfl), lw_t1 (List.mem_of_getElem? (i := 217) rfl)⟩
theorem lw_p18 : lw_okq (⟨"AcyclicJoinsModel", "number", "(I)I"⟩, 3) := ⟨⟨by decide +kernel, by decide +kernel⟩, lw_t1 (List.mem_of_getElem? (i := 146) rfl), lw_t1 (List.mem_of_getElem? (i := 220) rfl), lw_t1 (List.mem_of_getElem? (i := 221) rfl)⟩
theorem lw_p19 : lw_okq (⟨"AcyclicJoinsModel", "countWith", "(I)I"⟩, 3) := ⟨⟨by decide +kernel, by decide +kernel⟩, lw_t1 (List.mem_of_getElem? (i := 146) rfl), lw_t1 (List.mem_of_getElem? (i := 232) rfl), lw_t1 (List.mem_of_getElem? (i := 233) rfl)⟩
theorem lw_p20 : lw_okq (⟨"AcyclicJoinsModel", "countValue", "(II)I"⟩, 3) := ⟨⟨by decide +kernel, by decide +kernel⟩, lw_t1 (List.mem_of_getElem? (i := 146) rfl), lw_t2 (List.mem_of_getElem? (i := 8) rfl), lw_t2 (List.mem_of_getElem? (i := 9) rfl)⟩
def lw_privs_2 : List (MethodName × Nat) := [(⟨"AcyclicJoinsModel", "code", "(I)I"⟩, 3), (⟨"AcyclicJoinsModel", "isCode", "(I)Z"⟩, 3), (⟨"AcyclicJoinsModel", "number", "(I)I"⟩, 3), (⟨"AcyclicJoinsModel", "countWith", "(I)I"⟩, 3), (⟨"AcyclicJoinsModel", "countValue", "(II)I"⟩, 3)]
theorem lw_r2 : ∀ q ∈ lw_privs_2, lw_okq q := List.forall_mem_cons.mpr ⟨lw_p16, List.forall_mem_cons.mpr ⟨lw_p17, List.forall_mem_cons.mpr ⟨lw_p18, List.forall_mem_cons.mpr ⟨lw_p19, List.forall_mem_cons.mpr ⟨lw_p20, fun _ h => absurd h List.not_mem_nil⟩⟩⟩⟩⟩
def lw_privs : List (MethodName × Nat) := lw_privs_1 ++ (lw_privs_2)
def lw_tbl : List Cond := k2_sels lw_privs ++ tables_1
theorem lw_privs_ok : ∀ q ∈ lw_privs, lw_okq q := by
  show ∀ q ∈ lw_privs_1 ++ (lw_privs_2), lw_okq q
  exact List.forall_mem_append.mpr ⟨lw_r1, lw_r2⟩
-- ===== ONE list of words for every method: the tables' words that hold all through a run =====
def lw_all : List Cond := lw_tbl.filter goodWord
/-- a word of the tables by its place: claim/WORDS.tsv -/
theorem lw_w {w : Cond} (i : Nat) (h : lw_tbl[i]? = some w) (g : goodWord w = true) : w ∈ lw_all := List.mem_filter.mpr ⟨List.mem_of_getElem? h, g⟩
theorem lw_all_tbl {w : Cond} (h : w ∈ lw_all) : w ∈ lw_tbl := (List.mem_filter.mp h).1
theorem lw_self : GoodIn lw_all lw_all := fun w h => ⟨h, good_of_word (List.mem_filter.mp h).2⟩
/-- a class's field words, by their places -/
theorem lw_in (ws : List Cond) (ps : List Nat) (hp : ws = ps.filterMap (fun i => lw_tbl[i]?)) (hg : ws.all goodWord = true) : ∀ w ∈ ws, w ∈ lw_all := by
  intro w h
  have h1 := List.all_eq_true.mp hg w h
  rw [hp] at h
  obtain ⟨i, -, hi⟩ := List.mem_filterMap.mp h
  exact lw_w i hi h1
/-- the words of a contract for the method y with code b, L locals, answer r -/
abbrev ws_ (y : MethodName) (b : ByteArray) (L : Nat) (r : Option FieldType) : List Cond := Cond.code y b L r :: lw_all
theorem lw_meth {y : MethodName} {b : ByteArray} {L : Nat} {r : Option FieldType} (h : Cond.code y b L r ∈ lw_all) : GoodIn lw_all (ws_ y b L r) := by
  intro w hw
  rcases List.mem_cons.mp hw with e | e
  · rw [e]
    exact lw_self _ h
  · exact lw_self _ e
theorem lw_app {a c : List Cond} (ha : ∀ w ∈ a, w ∈ lw_all) (hc : GoodIn lw_all c) : GoodIn lw_all (a ++ c) := by
  intro w hw
  rcases List.mem_append.mp hw with e | e
  · exact lw_self w (ha w e)
  · exact hc w e
/-- what a call through an object asks: cwV n hts (lw_V ..) -/
theorem lw_V {own : String} {idx : Nat} {C : String} {y : MethodName} {b : ByteArray} {L : Nat} {r : Option FieldType} (h1 : Cond.methodLink own idx y ∈ lw_all) (h2 : Cond.instanceMethod y ∈ lw_all) (h3 : Cond.selects C y y ∈ lw_all) (h4 : Cond.initialized C ∈ lw_all) (h5 : Cond.code y b L r ∈ lw_all) : GoodIn lw_all (wsV own idx C y (ws_ y b L r)) := by
  refine lw_app ?_ (lw_meth h5)
  intro w hw
  simp only [List.mem_cons, List.not_mem_nil, or_false] at hw
  rcases hw with e | e | e | e
  · rw [e]; exact h1
  · rw [e]; exact h2
  · rw [e]; exact h3
  · rw [e]; exact h4
/-- what a static call asks: va_cwS n hts (lw_S ..) -/
theorem lw_S {own : String} {idx : Nat} {y : MethodName} {b : ByteArray} {L : Nat} {r : Option FieldType} (h1 : Cond.methodLink own idx y ∈ lw_all) (h2 : Cond.static y ∈ lw_all) (h3 : Cond.initialized y.cls ∈ lw_all) (h4 : Cond.code y b L r ∈ lw_all) : GoodIn lw_all (va_wsS own idx y (ws_ y b L r)) := by
  refine lw_app ?_ (lw_meth h4)
  intro w hw
  simp only [List.mem_cons, List.not_mem_nil, or_false] at hw
  rcases hw with e | e | e
  · rw [e]; exact h1
  · rw [e]; exact h2
  · rw [e]; exact h3
/-- the words of a contract for a method WITH HANDLERS (hh: its table) -/
abbrev wsW_ (y : MethodName) (b : ByteArray) (L : Nat) (r : Option FieldType) (hh : List (Nat × Nat × Nat × Nat)) : List Cond := Cond.codeWith y b L r hh :: lw_all
theorem lw_methW {y : MethodName} {b : ByteArray} {L : Nat} {r : Option FieldType} {hh : List (Nat × Nat × Nat × Nat)} (h : Cond.codeWith y b L r hh ∈ lw_all) : GoodIn lw_all (wsW_ y b L r hh) := by
  intro w hw
  rcases List.mem_cons.mp hw with e | e
  · rw [e]
    exact lw_self _ h
  · exact lw_self _ e
/-- any list of words by their places (lw_in), good -/
theorem lw_good {ws : List Cond} (h : ∀ w ∈ ws, w ∈ lw_all) : GoodIn lw_all ws := fun w hw => lw_self w (h w hw)
/-- what a call of a method with handlers asks: vx_cwVW n hts (lw_VW ..), vx_cwSW n hts (lw_SW ..) -/
theorem lw_VW {own : String} {idx : Nat} {C : String} {y : MethodName} {b : ByteArray} {L : Nat} {r : Option FieldType} {hh : List (Nat × Nat × Nat × Nat)} (h1 : Cond.methodLink own idx y ∈ lw_all) (h2 : Cond.instanceMethod y ∈ lw_all) (h3 : Cond.selects C y y ∈ lw_all) (h4 : Cond.initialized C ∈ lw_all) (h5 : Cond.codeWith y b L r hh ∈ lw_all) : GoodIn lw_all (wsV own idx C y (wsW_ y b L r hh)) := by
  refine lw_app ?_ (lw_methW h5)
  intro w hw
  simp only [List.mem_cons, List.not_mem_nil, or_false] at hw
  rcases hw with e | e | e | e
  · rw [e]; exact h1
  · rw [e]; exact h2
  · rw [e]; exact h3
  · rw [e]; exact h4
theorem lw_SW {own : String} {idx : Nat} {y : MethodName} {b : ByteArray} {L : Nat} {r : Option FieldType} {hh : List (Nat × Nat × Nat × Nat)} (h1 : Cond.methodLink own idx y ∈ lw_all) (h2 : Cond.static y ∈ lw_all) (h3 : Cond.initialized y.cls ∈ lw_all) (h4 : Cond.codeWith y b L r hh ∈ lw_all) : GoodIn lw_all (va_wsS own idx y (wsW_ y b L r hh)) := by
  refine lw_app ?_ (lw_methW h4)
  intro w hw
  simp only [List.mem_cons, List.not_mem_nil, or_false] at hw
  rcases hw with e | e | e
  · rw [e]; exact h1
  · rw [e]; exact h2
  · rw [e]; exact h3
/-- a word by its place in its run of the tables -/
theorem lw_at {r : List Cond} (hr : ∀ w ∈ r, w ∈ lw_tbl) {w : Cond} (i : Nat) (h : r[i]? = some w) : w ∈ lw_tbl := hr w (List.mem_of_getElem? h)
theorem lw_g {w : Cond} (h : w ∈ lw_tbl) (g : goodWord w = true) : w ∈ lw_all := List.mem_filter.mpr ⟨h, g⟩
theorem lw_ms : ∀ w ∈ k2_sels lw_privs, w ∈ lw_tbl := fun w h => show w ∈ k2_sels lw_privs ++ tables_1 from List.mem_append_left _ h
theorem lw_m1 : ∀ w ∈ tables_1_1, w ∈ lw_tbl := fun w h => show w ∈ k2_sels lw_privs ++ tables_1 from List.mem_append_right (k2_sels lw_privs) (show w ∈ tables_1 from List.mem_append_left _ h)
theorem lw_m2 : ∀ w ∈ tables_1_2, w ∈ lw_tbl := fun w h => show w ∈ k2_sels lw_privs ++ tables_1 from List.mem_append_right (k2_sels lw_privs) (show w ∈ tables_1 from List.mem_append_right _ h)
theorem qs0 : (Cond.selects "AcyclicJoins" ⟨"AcyclicJoins", "badRow", "(III)Z"⟩ ⟨"AcyclicJoins", "badRow", "(III)Z"⟩) ∈ lw_all := lw_g (lw_at lw_ms 0 rfl) rfl
theorem qs1 : (Cond.selects "AcyclicJoins" ⟨"AcyclicJoins", "there", "(III)Z"⟩ ⟨"AcyclicJoins", "there", "(III)Z"⟩) ∈ lw_all := lw_g (lw_at lw_ms 1 rfl) rfl
theorem qs2 : (Cond.selects "AcyclicJoins" ⟨"AcyclicJoins", "pass", "()V"⟩ ⟨"AcyclicJoins", "pass", "()V"⟩) ∈ lw_all := lw_g (lw_at lw_ms 2 rfl) rfl
theorem qs3 : (Cond.selects "AcyclicJoins" ⟨"AcyclicJoins", "sizeOf", "(I)I"⟩ ⟨"AcyclicJoins", "sizeOf", "(I)I"⟩) ∈ lw_all := lw_g (lw_at lw_ms 3 rfl) rfl
theorem qs4 : (Cond.selects "AcyclicJoins" ⟨"AcyclicJoins", "behind", "(I)I"⟩ ⟨"AcyclicJoins", "behind", "(I)I"⟩) ∈ lw_all := lw_g (lw_at lw_ms 4 rfl) rfl
theorem qs5 : (Cond.selects "AcyclicJoins" ⟨"AcyclicJoins", "walk", "(IIII)I"⟩ ⟨"AcyclicJoins", "walk", "(IIII)I"⟩) ∈ lw_all := lw_g (lw_at lw_ms 5 rfl) rfl
theorem qs6 : (Cond.selects "AcyclicJoins" ⟨"AcyclicJoins", "badCode", "(I)Z"⟩ ⟨"AcyclicJoins", "badCode", "(I)Z"⟩) ∈ lw_all := lw_g (lw_at lw_ms 6 rfl) rfl
theorem qs7 : (Cond.selects "AcyclicJoins" ⟨"AcyclicJoins", "below", "(IIIII)I"⟩ ⟨"AcyclicJoins", "below", "(IIIII)I"⟩) ∈ lw_all := lw_g (lw_at lw_ms 7 rfl) rfl
theorem qs8 : (Cond.selects "AcyclicJoins" ⟨"AcyclicJoins", "share", "(III)I"⟩ ⟨"AcyclicJoins", "share", "(III)I"⟩) ∈ lw_all := lw_g (lw_at lw_ms 8 rfl) rfl
theorem qs9 : (Cond.selects "AcyclicJoins" ⟨"AcyclicJoins", "inColumn", "(II)I"⟩ ⟨"AcyclicJoins", "inColumn", "(II)I"⟩) ∈ lw_all := lw_g (lw_at lw_ms 9 rfl) rfl
theorem qs10 : (Cond.selects "AcyclicJoins" ⟨"AcyclicJoins", "endsOf", "(I)I"⟩ ⟨"AcyclicJoins", "endsOf", "(I)I"⟩) ∈ lw_all := lw_g (lw_at lw_ms 10 rfl) rfl
theorem qs11 : (Cond.selects "AcyclicJoinsModel" ⟨"AcyclicJoinsModel", "isRow", "(III)Z"⟩ ⟨"AcyclicJoinsModel", "isRow", "(III)Z"⟩) ∈ lw_all := lw_g (lw_at lw_ms 11 rfl) rfl
theorem qs12 : (Cond.selects "AcyclicJoinsModel" ⟨"AcyclicJoinsModel", "isValue", "(I)Z"⟩ ⟨"AcyclicJoinsModel", "isValue", "(I)Z"⟩) ∈ lw_all := lw_g (lw_at lw_ms 12 rfl) rfl
theorem qs13 : (Cond.selects "AcyclicJoinsModel" ⟨"AcyclicJoinsModel", "isAnswer", "(I)Z"⟩ ⟨"AcyclicJoinsModel", "isAnswer", "(I)Z"⟩) ∈ lw_all := lw_g (lw_at lw_ms 13 rfl) rfl
theorem qs14 : (Cond.selects "AcyclicJoinsModel" ⟨"AcyclicJoinsModel", "rowOf", "(II)I"⟩ ⟨"AcyclicJoinsModel", "rowOf", "(II)I"⟩) ∈ lw_all := lw_g (lw_at lw_ms 14 rfl) rfl
theorem qs15 : (Cond.selects "AcyclicJoinsModel" ⟨"AcyclicJoinsModel", "valueIn", "(II)I"⟩ ⟨"AcyclicJoinsModel", "valueIn", "(II)I"⟩) ∈ lw_all := lw_g (lw_at lw_ms 15 rfl) rfl
theorem qs16 : (Cond.selects "AcyclicJoinsModel" ⟨"AcyclicJoinsModel", "code", "(I)I"⟩ ⟨"AcyclicJoinsModel", "code", "(I)I"⟩) ∈ lw_all := lw_g (lw_at lw_ms 16 rfl) rfl
theorem qs17 : (Cond.selects "AcyclicJoinsModel" ⟨"AcyclicJoinsModel", "isCode", "(I)Z"⟩ ⟨"AcyclicJoinsModel", "isCode", "(I)Z"⟩) ∈ lw_all := lw_g (lw_at lw_ms 17 rfl) rfl
theorem qs18 : (Cond.selects "AcyclicJoinsModel" ⟨"AcyclicJoinsModel", "number", "(I)I"⟩ ⟨"AcyclicJoinsModel", "number", "(I)I"⟩) ∈ lw_all := lw_g (lw_at lw_ms 18 rfl) rfl
theorem qs19 : (Cond.selects "AcyclicJoinsModel" ⟨"AcyclicJoinsModel", "countWith", "(I)I"⟩ ⟨"AcyclicJoinsModel", "countWith", "(I)I"⟩) ∈ lw_all := lw_g (lw_at lw_ms 19 rfl) rfl
theorem qs20 : (Cond.selects "AcyclicJoinsModel" ⟨"AcyclicJoinsModel", "countValue", "(II)I"⟩ ⟨"AcyclicJoinsModel", "countValue", "(II)I"⟩) ∈ lw_all := lw_g (lw_at lw_ms 20 rfl) rfl
end
end
section
section
set_option maxRecDepth 100000
def RJ0 : String := "java/lang/Object"
abbrev cJ0_init : ByteArray := object_method_1_code
def yJ0_init : MethodName := ⟨RJ0, "<init>", "()V"⟩
theorem q30 : (Jvm.Cond.instanceMethod ({ cls := "java/lang/Object", name := "<init>", desc := "()V" } : Jvm.MethodName)) ∈ lw_all := lw_g (lw_at lw_m1 9 rfl) rfl
theorem q31 : (Jvm.Cond.code ({ cls := "java/lang/Object", name := "<init>", desc := "()V" } : Jvm.MethodName) object_method_1_code (1 : Nat) (Option.none : Option Jvm.ClassFile.FieldType)) ∈ lw_all := lw_g (lw_at lw_m1 10 rfl) rfl
def RX0 : String := "AcyclicJoins"
def TX0 : u_T := fun k => match k with
  | 0 => ("AcyclicJoins", "next", "[I", true)
  | 1 => ("AcyclicJoins", "size", "[I", true)
  | 2 => ("AcyclicJoins", "passed", "Z", false)
  | 3 => ("AcyclicJoins", "downR", "[I", true)
  | 4 => ("AcyclicJoins", "downT", "[I", true)
  | 5 => ("AcyclicJoins", "downQ", "[I", true)
  | 6 => ("AcyclicJoins", "upQ", "[I", true)
  | 7 => ("AcyclicJoins", "upR", "[I", true)
  | _ => ("AcyclicJoins", "rest", "I", false)
def tyX0 : Nat → FieldType := fun k => match k with
  | 0 => .array .int
  | 1 => .array .int
  | 2 => .boolean
  | 3 => .array .int
  | 4 => .array .int
  | 5 => .array .int
  | 6 => .array .int
  | 7 => .array .int
  | _ => .int
abbrev wsX00 : List Cond := u_ws RX0 TX0 9
theorem nmX0 : ∀ a, a < 9 → ∀ b, b < 9 → a ≠ b → (TX0 a).2.1 ≠ (TX0 b).2.1 := by decide +kernel
theorem tyX0_ok : ∀ k, k < 9 → parseFieldDescriptor (TX0 k).2.2.1 = some (tyX0 k) := by decide +kernel
abbrev cX0_init : ByteArray := prog_1_method_1_code
def yX0_init : MethodName := ⟨RX0, "<init>", "()V"⟩
abbrev cX0_put : ByteArray := prog_1_method_4_code
def yX0_put : MethodName := ⟨RX0, "put", "(III)I"⟩
abbrev cX0_badRow : ByteArray := prog_1_method_2_code
def yX0_badRow : MethodName := ⟨RX0, "badRow", "(III)Z"⟩
abbrev cX0_there : ByteArray := prog_1_method_3_code
def yX0_there : MethodName := ⟨RX0, "there", "(III)Z"⟩
abbrev cX0_drop : ByteArray := prog_1_method_5_code
def yX0_drop : MethodName := ⟨RX0, "drop", "(III)I"⟩
abbrev cX0_clear : ByteArray := prog_1_method_6_code
def yX0_clear : MethodName := ⟨RX0, "clear", "(I)I"⟩
abbrev cX0_rows : ByteArray := prog_1_method_7_code
def yX0_rows : MethodName := ⟨RX0, "rows", "(I)I"⟩
abbrev cX0_count : ByteArray := prog_1_method_11_code
def yX0_count : MethodName := ⟨RX0, "count", "()I"⟩
abbrev cX0_pass : ByteArray := prog_1_method_9_code
def yX0_pass : MethodName := ⟨RX0, "pass", "()V"⟩
abbrev cX0_sizeOf : ByteArray := prog_1_method_8_code
def yX0_sizeOf : MethodName := ⟨RX0, "sizeOf", "(I)I"⟩
abbrev cX0_behind : ByteArray := prog_1_method_10_code
def yX0_behind : MethodName := ⟨RX0, "behind", "(I)I"⟩
abbrev cX0_answer : ByteArray := prog_1_method_13_code
def yX0_answer : MethodName := ⟨RX0, "answer", "(I)I"⟩
abbrev cX0_walk : ByteArray := prog_1_method_12_code
def yX0_walk : MethodName := ⟨RX0, "walk", "(IIII)I"⟩
abbrev cX0_has : ByteArray := prog_1_method_15_code
def yX0_has : MethodName := ⟨RX0, "has", "(I)Z"⟩
abbrev cX0_badCode : ByteArray := prog_1_method_14_code
def yX0_badCode : MethodName := ⟨RX0, "badCode", "(I)Z"⟩
abbrev cX0_rank : ByteArray := prog_1_method_17_code
def yX0_rank : MethodName := ⟨RX0, "rank", "(I)I"⟩
abbrev cX0_below : ByteArray := prog_1_method_16_code
def yX0_below : MethodName := ⟨RX0, "below", "(IIIII)I"⟩
abbrev cX0_useful : ByteArray := prog_1_method_19_code
def yX0_useful : MethodName := ⟨RX0, "useful", "(I)I"⟩
abbrev cX0_share : ByteArray := prog_1_method_18_code
def yX0_share : MethodName := ⟨RX0, "share", "(III)I"⟩
abbrev cX0_weight : ByteArray := prog_1_method_20_code
def yX0_weight : MethodName := ⟨RX0, "weight", "(III)I"⟩
abbrev cX0_gain : ByteArray := prog_1_method_21_code
def yX0_gain : MethodName := ⟨RX0, "gain", "(III)I"⟩
abbrev cX0_values : ByteArray := prog_1_method_23_code
def yX0_values : MethodName := ⟨RX0, "values", "(I)I"⟩
abbrev cX0_inColumn : ByteArray := prog_1_method_22_code
def yX0_inColumn : MethodName := ⟨RX0, "inColumn", "(II)I"⟩
abbrev cX0_with : ByteArray := prog_1_method_24_code
def yX0_with : MethodName := ⟨RX0, "with", "(II)I"⟩
abbrev cX0_ends : ByteArray := prog_1_method_25_code
def yX0_ends : MethodName := ⟨RX0, "ends", "()I"⟩
abbrev cX0_endsOf : ByteArray := prog_1_method_26_code
def yX0_endsOf : MethodName := ⟨RX0, "endsOf", "(I)I"⟩
abbrev cX0_sum : ByteArray := prog_1_method_27_code
def yX0_sum : MethodName := ⟨RX0, "sum", "()I"⟩
theorem q22 : (Jvm.Cond.initialized "AcyclicJoins") ∈ lw_all := lw_g (lw_at lw_m1 1 rfl) rfl
theorem q25 : (Jvm.Cond.instantiable "AcyclicJoins" (9 : Nat)) ∈ lw_all := lw_g (lw_at lw_m1 4 rfl) rfl
theorem q27 : (Jvm.Cond.instanceMethod ({ cls := "AcyclicJoins", name := "<init>", desc := "()V" } : Jvm.MethodName)) ∈ lw_all := lw_g (lw_at lw_m1 6 rfl) rfl
theorem q28 : (Jvm.Cond.code ({ cls := "AcyclicJoins", name := "<init>", desc := "()V" } : Jvm.MethodName) prog_1_method_1_code (1 : Nat) (Option.none : Option Jvm.ClassFile.FieldType)) ∈ lw_all := lw_g (lw_at lw_m1 7 rfl) rfl
theorem q29 : (Jvm.Cond.methodLink "AcyclicJoins" (1 : Nat) ({ cls := "java/lang/Object", name := "<init>", desc := "()V" } : Jvm.MethodName)) ∈ lw_all := lw_g (lw_at lw_m1 8 rfl) rfl
theorem q32 : (Jvm.Cond.fieldLink "AcyclicJoins" (7 : Nat) "AcyclicJoins" "next" "[I") ∈ lw_all := lw_g (lw_at lw_m1 11 rfl) rfl
theorem q33 : (Jvm.Cond.fieldLink "AcyclicJoins" (13 : Nat) "AcyclicJoins" "size" "[I") ∈ lw_all := lw_g (lw_at lw_m1 12 rfl) rfl
theorem q34 : (Jvm.Cond.fieldLink "AcyclicJoins" (38 : Nat) "AcyclicJoins" "passed" "Z") ∈ lw_all := lw_g (lw_at lw_m1 13 rfl) rfl
theorem q35 : (Jvm.Cond.fieldLink "AcyclicJoins" (16 : Nat) "AcyclicJoins" "downR" "[I") ∈ lw_all := lw_g (lw_at lw_m1 14 rfl) rfl
theorem q36 : (Jvm.Cond.fieldLink "AcyclicJoins" (19 : Nat) "AcyclicJoins" "downT" "[I") ∈ lw_all := lw_g (lw_at lw_m1 15 rfl) rfl
theorem q37 : (Jvm.Cond.fieldLink "AcyclicJoins" (22 : Nat) "AcyclicJoins" "downQ" "[I") ∈ lw_all := lw_g (lw_at lw_m1 16 rfl) rfl
theorem q38 : (Jvm.Cond.fieldLink "AcyclicJoins" (25 : Nat) "AcyclicJoins" "upQ" "[I") ∈ lw_all := lw_g (lw_at lw_m1 17 rfl) rfl
theorem q39 : (Jvm.Cond.fieldLink "AcyclicJoins" (28 : Nat) "AcyclicJoins" "upR" "[I") ∈ lw_all := lw_g (lw_at lw_m1 18 rfl) rfl
theorem q40 : (Jvm.Cond.fieldLink "AcyclicJoins" (52 : Nat) "AcyclicJoins" "rest" "I") ∈ lw_all := lw_g (lw_at lw_m1 19 rfl) rfl
theorem q41 : (Jvm.Cond.laysFinal "AcyclicJoins" "AcyclicJoins" "next" "[I") ∈ lw_all := lw_g (lw_at lw_m1 20 rfl) rfl
theorem q42 : (Jvm.Cond.soleField "AcyclicJoins" "next") ∈ lw_all := lw_g (lw_at lw_m1 21 rfl) rfl
theorem q43 : (Jvm.Cond.laysFinal "AcyclicJoins" "AcyclicJoins" "size" "[I") ∈ lw_all := lw_g (lw_at lw_m1 22 rfl) rfl
theorem q44 : (Jvm.Cond.soleField "AcyclicJoins" "size") ∈ lw_all := lw_g (lw_at lw_m1 23 rfl) rfl
theorem q45 : (Jvm.Cond.lays "AcyclicJoins" "AcyclicJoins" "passed" "Z") ∈ lw_all := lw_g (lw_at lw_m1 24 rfl) rfl
theorem q46 : (Jvm.Cond.soleField "AcyclicJoins" "passed") ∈ lw_all := lw_g (lw_at lw_m1 25 rfl) rfl
theorem q47 : (Jvm.Cond.laysFinal "AcyclicJoins" "AcyclicJoins" "downR" "[I") ∈ lw_all := lw_g (lw_at lw_m1 26 rfl) rfl
theorem q48 : (Jvm.Cond.soleField "AcyclicJoins" "downR") ∈ lw_all := lw_g (lw_at lw_m1 27 rfl) rfl
theorem q49 : (Jvm.Cond.laysFinal "AcyclicJoins" "AcyclicJoins" "downT" "[I") ∈ lw_all := lw_g (lw_at lw_m1 28 rfl) rfl
theorem q50 : (Jvm.Cond.soleField "AcyclicJoins" "downT") ∈ lw_all := lw_g (lw_at lw_m1 29 rfl) rfl
theorem q51 : (Jvm.Cond.laysFinal "AcyclicJoins" "AcyclicJoins" "downQ" "[I") ∈ lw_all := lw_g (lw_at lw_m1 30 rfl) rfl
theorem q52 : (Jvm.Cond.soleField "AcyclicJoins" "downQ") ∈ lw_all := lw_g (lw_at lw_m1 31 rfl) rfl
theorem q53 : (Jvm.Cond.laysFinal "AcyclicJoins" "AcyclicJoins" "upQ" "[I") ∈ lw_all := lw_g (lw_at lw_m1 32 rfl) rfl
theorem q54 : (Jvm.Cond.soleField "AcyclicJoins" "upQ") ∈ lw_all := lw_g (lw_at lw_m1 33 rfl) rfl
theorem q55 : (Jvm.Cond.laysFinal "AcyclicJoins" "AcyclicJoins" "upR" "[I") ∈ lw_all := lw_g (lw_at lw_m1 34 rfl) rfl
theorem q56 : (Jvm.Cond.soleField "AcyclicJoins" "upR") ∈ lw_all := lw_g (lw_at lw_m1 35 rfl) rfl
theorem q57 : (Jvm.Cond.lays "AcyclicJoins" "AcyclicJoins" "rest" "I") ∈ lw_all := lw_g (lw_at lw_m1 36 rfl) rfl
theorem q58 : (Jvm.Cond.soleField "AcyclicJoins" "rest") ∈ lw_all := lw_g (lw_at lw_m1 37 rfl) rfl
theorem q59 : (Jvm.Cond.superclass "AcyclicJoins" "java/lang/Object") ∈ lw_all := lw_g (lw_at lw_m1 38 rfl) rfl
theorem q62 : (Jvm.Cond.instanceMethod ({ cls := "AcyclicJoins", name := "put", desc := "(III)I" } : Jvm.MethodName)) ∈ lw_all := lw_g (lw_at lw_m1 41 rfl) rfl
theorem q63 : (Jvm.Cond.selects "AcyclicJoins" ({ cls := "AcyclicJoins", name := "put", desc := "(III)I" } : Jvm.MethodName) ({ cls := "AcyclicJoins", name := "put", desc := "(III)I" } : Jvm.MethodName)) ∈ lw_all := lw_g (lw_at lw_m1 42 rfl) rfl
theorem q64 : (Jvm.Cond.code ({ cls := "AcyclicJoins", name := "put", desc := "(III)I" } : Jvm.MethodName) prog_1_method_4_code (4 : Nat) (Option.some Jvm.ClassFile.FieldType.int)) ∈ lw_all := lw_g (lw_at lw_m1 43 rfl) rfl
theorem q65 : (Jvm.Cond.methodLink "AcyclicJoins" (31 : Nat) ({ cls := "AcyclicJoins", name := "badRow", desc := "(III)Z" } : Jvm.MethodName)) ∈ lw_all := lw_g (lw_at lw_m1 44 rfl) rfl
theorem q66 : (Jvm.Cond.privateMethod ({ cls := "AcyclicJoins", name := "badRow", desc := "(III)Z" } : Jvm.MethodName)) ∈ lw_tbl := lw_at lw_m1 45 rfl
theorem q67 : (Jvm.Cond.instanceMethod ({ cls := "AcyclicJoins", name := "badRow", desc := "(III)Z" } : Jvm.MethodName)) ∈ lw_all := lw_g (lw_at lw_m1 46 rfl) rfl
theorem q68 : (Jvm.Cond.code ({ cls := "AcyclicJoins", name := "badRow", desc := "(III)Z" } : Jvm.MethodName) prog_1_method_2_code (4 : Nat) (Option.some Jvm.ClassFile.FieldType.boolean)) ∈ lw_all := lw_g (lw_at lw_m1 47 rfl) rfl
theorem q69 : (Jvm.Cond.methodLink "AcyclicJoins" (35 : Nat) ({ cls := "AcyclicJoins", name := "there", desc := "(III)Z" } : Jvm.MethodName)) ∈ lw_all := lw_g (lw_at lw_m1 48 rfl) rfl
theorem q70 : (Jvm.Cond.privateMethod ({ cls := "AcyclicJoins", name := "there", desc := "(III)Z" } : Jvm.MethodName)) ∈ lw_tbl := lw_at lw_m1 49 rfl
theorem q71 : (Jvm.Cond.instanceMethod ({ cls := "AcyclicJoins", name := "there", desc := "(III)Z" } : Jvm.MethodName)) ∈ lw_all := lw_g (lw_at lw_m1 50 rfl) rfl
theorem q72 : (Jvm.Cond.code ({ cls := "AcyclicJoins", name := "there", desc := "(III)Z" } : Jvm.MethodName) prog_1_method_3_code (4 : Nat) (Option.some Jvm.ClassFile.FieldType.boolean)) ∈ lw_all := lw_g (lw_at lw_m1 51 rfl) rfl
theorem q74 : (Jvm.Cond.instanceMethod ({ cls := "AcyclicJoins", name := "drop", desc := "(III)I" } : Jvm.MethodName)) ∈ lw_all := lw_g (lw_at lw_m1 53 rfl) rfl
theorem q75 : (Jvm.Cond.selects "AcyclicJoins" ({ cls := "AcyclicJoins", name := "drop", desc := "(III)I" } : Jvm.MethodName) ({ cls := "AcyclicJoins", name := "drop", desc := "(III)I" } : Jvm.MethodName)) ∈ lw_all := lw_g (lw_at lw_m1 54 rfl) rfl
theorem q76 : (Jvm.Cond.code ({ cls := "AcyclicJoins", name := "drop", desc := "(III)I" } : Jvm.MethodName) prog_1_method_5_code (4 : Nat) (Option.some Jvm.ClassFile.FieldType.int)) ∈ lw_all := lw_g (lw_at lw_m1 55 rfl) rfl
theorem q78 : (Jvm.Cond.instanceMethod ({ cls := "AcyclicJoins", name := "clear", desc := "(I)I" } : Jvm.MethodName)) ∈ lw_all := lw_g (lw_at lw_m1 57 rfl) rfl
theorem q79 : (Jvm.Cond.selects "AcyclicJoins" ({ cls := "AcyclicJoins", name := "clear", desc := "(I)I" } : Jvm.MethodName) ({ cls := "AcyclicJoins", name := "clear", desc := "(I)I" } : Jvm.MethodName)) ∈ lw_all := lw_g (lw_at lw_m1 58 rfl) rfl
theorem q80 : (Jvm.Cond.code ({ cls := "AcyclicJoins", name := "clear", desc := "(I)I" } : Jvm.MethodName) prog_1_method_6_code (4 : Nat) (Option.some Jvm.ClassFile.FieldType.int)) ∈ lw_all := lw_g (lw_at lw_m1 59 rfl) rfl
theorem q82 : (Jvm.Cond.instanceMethod ({ cls := "AcyclicJoins", name := "rows", desc := "(I)I" } : Jvm.MethodName)) ∈ lw_all := lw_g (lw_at lw_m1 61 rfl) rfl
theorem q83 : (Jvm.Cond.selects "AcyclicJoins" ({ cls := "AcyclicJoins", name := "rows", desc := "(I)I" } : Jvm.MethodName) ({ cls := "AcyclicJoins", name := "rows", desc := "(I)I" } : Jvm.MethodName)) ∈ lw_all := lw_g (lw_at lw_m1 62 rfl) rfl
theorem q84 : (Jvm.Cond.code ({ cls := "AcyclicJoins", name := "rows", desc := "(I)I" } : Jvm.MethodName) prog_1_method_7_code (2 : Nat) (Option.some Jvm.ClassFile.FieldType.int)) ∈ lw_all := lw_g (lw_at lw_m1 63 rfl) rfl
theorem q86 : (Jvm.Cond.instanceMethod ({ cls := "AcyclicJoins", name := "count", desc := "()I" } : Jvm.MethodName)) ∈ lw_all := lw_g (lw_at lw_m1 65 rfl) rfl
theorem q87 : (Jvm.Cond.selects "AcyclicJoins" ({ cls := "AcyclicJoins", name := "count", desc := "()I" } : Jvm.MethodName) ({ cls := "AcyclicJoins", name := "count", desc := "()I" } : Jvm.MethodName)) ∈ lw_all := lw_g (lw_at lw_m1 66 rfl) rfl
theorem q88 : (Jvm.Cond.code ({ cls := "AcyclicJoins", name := "count", desc := "()I" } : Jvm.MethodName) prog_1_method_11_code (3 : Nat) (Option.some Jvm.ClassFile.FieldType.int)) ∈ lw_all := lw_g (lw_at lw_m1 67 rfl) rfl
theorem q89 : (Jvm.Cond.methodLink "AcyclicJoins" (46 : Nat) ({ cls := "AcyclicJoins", name := "pass", desc := "()V" } : Jvm.MethodName)) ∈ lw_all := lw_g (lw_at lw_m1 68 rfl) rfl
theorem q90 : (Jvm.Cond.privateMethod ({ cls := "AcyclicJoins", name := "pass", desc := "()V" } : Jvm.MethodName)) ∈ lw_tbl := lw_at lw_m1 69 rfl
theorem q91 : (Jvm.Cond.instanceMethod ({ cls := "AcyclicJoins", name := "pass", desc := "()V" } : Jvm.MethodName)) ∈ lw_all := lw_g (lw_at lw_m1 70 rfl) rfl
theorem q92 : (Jvm.Cond.code ({ cls := "AcyclicJoins", name := "pass", desc := "()V" } : Jvm.MethodName) prog_1_method_9_code (3 : Nat) (Option.none : Option Jvm.ClassFile.FieldType)) ∈ lw_all := lw_g (lw_at lw_m1 71 rfl) rfl
theorem q93 : (Jvm.Cond.methodLink "AcyclicJoins" (42 : Nat) ({ cls := "AcyclicJoins", name := "sizeOf", desc := "(I)I" } : Jvm.MethodName)) ∈ lw_all := lw_g (lw_at lw_m1 72 rfl) rfl
theorem q94 : (Jvm.Cond.privateMethod ({ cls := "AcyclicJoins", name := "sizeOf", desc := "(I)I" } : Jvm.MethodName)) ∈ lw_tbl := lw_at lw_m1 73 rfl
theorem q95 : (Jvm.Cond.instanceMethod ({ cls := "AcyclicJoins", name := "sizeOf", desc := "(I)I" } : Jvm.MethodName)) ∈ lw_all := lw_g (lw_at lw_m1 74 rfl) rfl
theorem q96 : (Jvm.Cond.code ({ cls := "AcyclicJoins", name := "sizeOf", desc := "(I)I" } : Jvm.MethodName) prog_1_method_8_code (4 : Nat) (Option.some Jvm.ClassFile.FieldType.int)) ∈ lw_all := lw_g (lw_at lw_m1 75 rfl) rfl
theorem q97 : (Jvm.Cond.methodLink "AcyclicJoins" (49 : Nat) ({ cls := "AcyclicJoins", name := "behind", desc := "(I)I" } : Jvm.MethodName)) ∈ lw_all := lw_g (lw_at lw_m1 76 rfl) rfl
theorem q98 : (Jvm.Cond.privateMethod ({ cls := "AcyclicJoins", name := "behind", desc := "(I)I" } : Jvm.MethodName)) ∈ lw_tbl := lw_at lw_m1 77 rfl
theorem q99 : (Jvm.Cond.instanceMethod ({ cls := "AcyclicJoins", name := "behind", desc := "(I)I" } : Jvm.MethodName)) ∈ lw_all := lw_g (lw_at lw_m1 78 rfl) rfl
theorem q100 : (Jvm.Cond.code ({ cls := "AcyclicJoins", name := "behind", desc := "(I)I" } : Jvm.MethodName) prog_1_method_10_code (2 : Nat) (Option.some Jvm.ClassFile.FieldType.int)) ∈ lw_all := lw_g (lw_at lw_m1 79 rfl) rfl
theorem q102 : (Jvm.Cond.instanceMethod ({ cls := "AcyclicJoins", name := "answer", desc := "(I)I" } : Jvm.MethodName)) ∈ lw_all := lw_g (lw_at lw_m1 81 rfl) rfl
theorem q103 : (Jvm.Cond.selects "AcyclicJoins" ({ cls := "AcyclicJoins", name := "answer", desc := "(I)I" } : Jvm.MethodName) ({ cls := "AcyclicJoins", name := "answer", desc := "(I)I" } : Jvm.MethodName)) ∈ lw_all := lw_g (lw_at lw_m1 82 rfl) rfl
theorem q104 : (Jvm.Cond.code ({ cls := "AcyclicJoins", name := "answer", desc := "(I)I" } : Jvm.MethodName) prog_1_method_13_code (8 : Nat) (Option.some Jvm.ClassFile.FieldType.int)) ∈ lw_all := lw_g (lw_at lw_m1 83 rfl) rfl
theorem q105 : (Jvm.Cond.methodLink "AcyclicJoins" (56 : Nat) ({ cls := "AcyclicJoins", name := "count", desc := "()I" } : Jvm.MethodName)) ∈ lw_all := lw_g (lw_at lw_m1 84 rfl) rfl
theorem q106 : (Jvm.Cond.methodLink "AcyclicJoins" (60 : Nat) ({ cls := "AcyclicJoins", name := "walk", desc := "(IIII)I" } : Jvm.MethodName)) ∈ lw_all := lw_g (lw_at lw_m1 85 rfl) rfl
theorem q107 : (Jvm.Cond.privateMethod ({ cls := "AcyclicJoins", name := "walk", desc := "(IIII)I" } : Jvm.MethodName)) ∈ lw_tbl := lw_at lw_m1 86 rfl
theorem q108 : (Jvm.Cond.instanceMethod ({ cls := "AcyclicJoins", name := "walk", desc := "(IIII)I" } : Jvm.MethodName)) ∈ lw_all := lw_g (lw_at lw_m1 87 rfl) rfl
theorem q109 : (Jvm.Cond.code ({ cls := "AcyclicJoins", name := "walk", desc := "(IIII)I" } : Jvm.MethodName) prog_1_method_12_code (7 : Nat) (Option.some Jvm.ClassFile.FieldType.int)) ∈ lw_all := lw_g (lw_at lw_m1 88 rfl) rfl
theorem q111 : (Jvm.Cond.instanceMethod ({ cls := "AcyclicJoins", name := "has", desc := "(I)Z" } : Jvm.MethodName)) ∈ lw_all := lw_g (lw_at lw_m1 90 rfl) rfl
theorem q112 : (Jvm.Cond.selects "AcyclicJoins" ({ cls := "AcyclicJoins", name := "has", desc := "(I)Z" } : Jvm.MethodName) ({ cls := "AcyclicJoins", name := "has", desc := "(I)Z" } : Jvm.MethodName)) ∈ lw_all := lw_g (lw_at lw_m1 91 rfl) rfl
theorem q113 : (Jvm.Cond.code ({ cls := "AcyclicJoins", name := "has", desc := "(I)Z" } : Jvm.MethodName) prog_1_method_15_code (7 : Nat) (Option.some Jvm.ClassFile.FieldType.boolean)) ∈ lw_all := lw_g (lw_at lw_m1 92 rfl) rfl
theorem q114 : (Jvm.Cond.methodLink "AcyclicJoins" (64 : Nat) ({ cls := "AcyclicJoins", name := "badCode", desc := "(I)Z" } : Jvm.MethodName)) ∈ lw_all := lw_g (lw_at lw_m1 93 rfl) rfl
theorem q115 : (Jvm.Cond.privateMethod ({ cls := "AcyclicJoins", name := "badCode", desc := "(I)Z" } : Jvm.MethodName)) ∈ lw_tbl := lw_at lw_m1 94 rfl
theorem q116 : (Jvm.Cond.instanceMethod ({ cls := "AcyclicJoins", name := "badCode", desc := "(I)Z" } : Jvm.MethodName)) ∈ lw_all := lw_g (lw_at lw_m1 95 rfl) rfl
theorem q117 : (Jvm.Cond.code ({ cls := "AcyclicJoins", name := "badCode", desc := "(I)Z" } : Jvm.MethodName) prog_1_method_14_code (2 : Nat) (Option.some Jvm.ClassFile.FieldType.boolean)) ∈ lw_all := lw_g (lw_at lw_m1 96 rfl) rfl
theorem q119 : (Jvm.Cond.instanceMethod ({ cls := "AcyclicJoins", name := "rank", desc := "(I)I" } : Jvm.MethodName)) ∈ lw_all := lw_g (lw_at lw_m1 98 rfl) rfl
theorem q120 : (Jvm.Cond.selects "AcyclicJoins" ({ cls := "AcyclicJoins", name := "rank", desc := "(I)I" } : Jvm.MethodName) ({ cls := "AcyclicJoins", name := "rank", desc := "(I)I" } : Jvm.MethodName)) ∈ lw_all := lw_g (lw_at lw_m1 99 rfl) rfl
theorem q121 : (Jvm.Cond.code ({ cls := "AcyclicJoins", name := "rank", desc := "(I)I" } : Jvm.MethodName) prog_1_method_17_code (10 : Nat) (Option.some Jvm.ClassFile.FieldType.int)) ∈ lw_all := lw_g (lw_at lw_m1 100 rfl) rfl
theorem q122 : (Jvm.Cond.methodLink "AcyclicJoins" (68 : Nat) ({ cls := "AcyclicJoins", name := "below", desc := "(IIIII)I" } : Jvm.MethodName)) ∈ lw_all := lw_g (lw_at lw_m1 101 rfl) rfl
theorem q123 : (Jvm.Cond.privateMethod ({ cls := "AcyclicJoins", name := "below", desc := "(IIIII)I" } : Jvm.MethodName)) ∈ lw_tbl := lw_at lw_m1 102 rfl
theorem q124 : (Jvm.Cond.instanceMethod ({ cls := "AcyclicJoins", name := "below", desc := "(IIIII)I" } : Jvm.MethodName)) ∈ lw_all := lw_g (lw_at lw_m1 103 rfl) rfl
theorem q125 : (Jvm.Cond.code ({ cls := "AcyclicJoins", name := "below", desc := "(IIIII)I" } : Jvm.MethodName) prog_1_method_16_code (8 : Nat) (Option.some Jvm.ClassFile.FieldType.int)) ∈ lw_all := lw_g (lw_at lw_m1 104 rfl) rfl
theorem q127 : (Jvm.Cond.instanceMethod ({ cls := "AcyclicJoins", name := "useful", desc := "(I)I" } : Jvm.MethodName)) ∈ lw_all := lw_g (lw_at lw_m1 106 rfl) rfl
theorem q128 : (Jvm.Cond.selects "AcyclicJoins" ({ cls := "AcyclicJoins", name := "useful", desc := "(I)I" } : Jvm.MethodName) ({ cls := "AcyclicJoins", name := "useful", desc := "(I)I" } : Jvm.MethodName)) ∈ lw_all := lw_g (lw_at lw_m1 107 rfl) rfl
theorem q129 : (Jvm.Cond.code ({ cls := "AcyclicJoins", name := "useful", desc := "(I)I" } : Jvm.MethodName) prog_1_method_19_code (6 : Nat) (Option.some Jvm.ClassFile.FieldType.int)) ∈ lw_all := lw_g (lw_at lw_m1 108 rfl) rfl
theorem q130 : (Jvm.Cond.methodLink "AcyclicJoins" (72 : Nat) ({ cls := "AcyclicJoins", name := "share", desc := "(III)I" } : Jvm.MethodName)) ∈ lw_all := lw_g (lw_at lw_m1 109 rfl) rfl
theorem q131 : (Jvm.Cond.privateMethod ({ cls := "AcyclicJoins", name := "share", desc := "(III)I" } : Jvm.MethodName)) ∈ lw_tbl := lw_at lw_m1 110 rfl
theorem q132 : (Jvm.Cond.instanceMethod ({ cls := "AcyclicJoins", name := "share", desc := "(III)I" } : Jvm.MethodName)) ∈ lw_all := lw_g (lw_at lw_m1 111 rfl) rfl
theorem q133 : (Jvm.Cond.code ({ cls := "AcyclicJoins", name := "share", desc := "(III)I" } : Jvm.MethodName) prog_1_method_18_code (4 : Nat) (Option.some Jvm.ClassFile.FieldType.int)) ∈ lw_all := lw_g (lw_at lw_m1 112 rfl) rfl
theorem q135 : (Jvm.Cond.instanceMethod ({ cls := "AcyclicJoins", name := "weight", desc := "(III)I" } : Jvm.MethodName)) ∈ lw_all := lw_g (lw_at lw_m1 114 rfl) rfl
theorem q136 : (Jvm.Cond.selects "AcyclicJoins" ({ cls := "AcyclicJoins", name := "weight", desc := "(III)I" } : Jvm.MethodName) ({ cls := "AcyclicJoins", name := "weight", desc := "(III)I" } : Jvm.MethodName)) ∈ lw_all := lw_g (lw_at lw_m1 115 rfl) rfl
theorem q137 : (Jvm.Cond.code ({ cls := "AcyclicJoins", name := "weight", desc := "(III)I" } : Jvm.MethodName) prog_1_method_20_code (4 : Nat) (Option.some Jvm.ClassFile.FieldType.int)) ∈ lw_all := lw_g (lw_at lw_m1 116 rfl) rfl
theorem q139 : (Jvm.Cond.instanceMethod ({ cls := "AcyclicJoins", name := "gain", desc := "(III)I" } : Jvm.MethodName)) ∈ lw_all := lw_g (lw_at lw_m1 118 rfl) rfl
theorem q140 : (Jvm.Cond.selects "AcyclicJoins" ({ cls := "AcyclicJoins", name := "gain", desc := "(III)I" } : Jvm.MethodName) ({ cls := "AcyclicJoins", name := "gain", desc := "(III)I" } : Jvm.MethodName)) ∈ lw_all := lw_g (lw_at lw_m1 119 rfl) rfl
theorem q141 : (Jvm.Cond.code ({ cls := "AcyclicJoins", name := "gain", desc := "(III)I" } : Jvm.MethodName) prog_1_method_21_code (4 : Nat) (Option.some Jvm.ClassFile.FieldType.int)) ∈ lw_all := lw_g (lw_at lw_m1 120 rfl) rfl
theorem q143 : (Jvm.Cond.instanceMethod ({ cls := "AcyclicJoins", name := "values", desc := "(I)I" } : Jvm.MethodName)) ∈ lw_all := lw_g (lw_at lw_m1 122 rfl) rfl
theorem q144 : (Jvm.Cond.selects "AcyclicJoins" ({ cls := "AcyclicJoins", name := "values", desc := "(I)I" } : Jvm.MethodName) ({ cls := "AcyclicJoins", name := "values", desc := "(I)I" } : Jvm.MethodName)) ∈ lw_all := lw_g (lw_at lw_m1 123 rfl) rfl
theorem q145 : (Jvm.Cond.code ({ cls := "AcyclicJoins", name := "values", desc := "(I)I" } : Jvm.MethodName) prog_1_method_23_code (5 : Nat) (Option.some Jvm.ClassFile.FieldType.int)) ∈ lw_all := lw_g (lw_at lw_m1 124 rfl) rfl
theorem q146 : (Jvm.Cond.methodLink "AcyclicJoins" (76 : Nat) ({ cls := "AcyclicJoins", name := "inColumn", desc := "(II)I" } : Jvm.MethodName)) ∈ lw_all := lw_g (lw_at lw_m1 125 rfl) rfl
theorem q147 : (Jvm.Cond.privateMethod ({ cls := "AcyclicJoins", name := "inColumn", desc := "(II)I" } : Jvm.MethodName)) ∈ lw_tbl := lw_at lw_m1 126 rfl
theorem q148 : (Jvm.Cond.instanceMethod ({ cls := "AcyclicJoins", name := "inColumn", desc := "(II)I" } : Jvm.MethodName)) ∈ lw_all := lw_g (lw_at lw_m1 127 rfl) rfl
theorem q149 : (Jvm.Cond.code ({ cls := "AcyclicJoins", name := "inColumn", desc := "(II)I" } : Jvm.MethodName) prog_1_method_22_code (5 : Nat) (Option.some Jvm.ClassFile.FieldType.int)) ∈ lw_all := lw_g (lw_at lw_m1 128 rfl) rfl
theorem q151 : (Jvm.Cond.instanceMethod ({ cls := "AcyclicJoins", name := "with", desc := "(II)I" } : Jvm.MethodName)) ∈ lw_all := lw_g (lw_at lw_m1 130 rfl) rfl
theorem q152 : (Jvm.Cond.selects "AcyclicJoins" ({ cls := "AcyclicJoins", name := "with", desc := "(II)I" } : Jvm.MethodName) ({ cls := "AcyclicJoins", name := "with", desc := "(II)I" } : Jvm.MethodName)) ∈ lw_all := lw_g (lw_at lw_m1 131 rfl) rfl
theorem q153 : (Jvm.Cond.code ({ cls := "AcyclicJoins", name := "with", desc := "(II)I" } : Jvm.MethodName) prog_1_method_24_code (3 : Nat) (Option.some Jvm.ClassFile.FieldType.int)) ∈ lw_all := lw_g (lw_at lw_m1 132 rfl) rfl
theorem q155 : (Jvm.Cond.instanceMethod ({ cls := "AcyclicJoins", name := "ends", desc := "()I" } : Jvm.MethodName)) ∈ lw_all := lw_g (lw_at lw_m1 134 rfl) rfl
theorem q156 : (Jvm.Cond.selects "AcyclicJoins" ({ cls := "AcyclicJoins", name := "ends", desc := "()I" } : Jvm.MethodName) ({ cls := "AcyclicJoins", name := "ends", desc := "()I" } : Jvm.MethodName)) ∈ lw_all := lw_g (lw_at lw_m1 135 rfl) rfl
theorem q157 : (Jvm.Cond.code ({ cls := "AcyclicJoins", name := "ends", desc := "()I" } : Jvm.MethodName) prog_1_method_25_code (5 : Nat) (Option.some Jvm.ClassFile.FieldType.int)) ∈ lw_all := lw_g (lw_at lw_m1 136 rfl) rfl
theorem q158 : (Jvm.Cond.methodLink "AcyclicJoins" (80 : Nat) ({ cls := "AcyclicJoins", name := "endsOf", desc := "(I)I" } : Jvm.MethodName)) ∈ lw_all := lw_g (lw_at lw_m1 137 rfl) rfl
theorem q159 : (Jvm.Cond.privateMethod ({ cls := "AcyclicJoins", name := "endsOf", desc := "(I)I" } : Jvm.MethodName)) ∈ lw_tbl := lw_at lw_m1 138 rfl
theorem q160 : (Jvm.Cond.instanceMethod ({ cls := "AcyclicJoins", name := "endsOf", desc := "(I)I" } : Jvm.MethodName)) ∈ lw_all := lw_g (lw_at lw_m1 139 rfl) rfl
theorem q161 : (Jvm.Cond.code ({ cls := "AcyclicJoins", name := "endsOf", desc := "(I)I" } : Jvm.MethodName) prog_1_method_26_code (5 : Nat) (Option.some Jvm.ClassFile.FieldType.int)) ∈ lw_all := lw_g (lw_at lw_m1 140 rfl) rfl
theorem q163 : (Jvm.Cond.instanceMethod ({ cls := "AcyclicJoins", name := "sum", desc := "()I" } : Jvm.MethodName)) ∈ lw_all := lw_g (lw_at lw_m1 142 rfl) rfl
theorem q164 : (Jvm.Cond.selects "AcyclicJoins" ({ cls := "AcyclicJoins", name := "sum", desc := "()I" } : Jvm.MethodName) ({ cls := "AcyclicJoins", name := "sum", desc := "()I" } : Jvm.MethodName)) ∈ lw_all := lw_g (lw_at lw_m1 143 rfl) rfl
theorem q165 : (Jvm.Cond.code ({ cls := "AcyclicJoins", name := "sum", desc := "()I" } : Jvm.MethodName) prog_1_method_27_code (5 : Nat) (Option.some Jvm.ClassFile.FieldType.int)) ∈ lw_all := lw_g (lw_at lw_m1 144 rfl) rfl
theorem in_X0 : ∀ w ∈ wsX00, w ∈ lw_all := lw_in wsX00 [41, 43, 45, 47, 49, 51, 53, 55, 57] (by decide +kernel) (by decide +kernel)
def RX1 : String := "AcyclicJoinsModel"
def TX1 : u_T := fun k => match k with
  | 0 => ("AcyclicJoinsModel", "rows", "[Z", true)
  | 1 => ("AcyclicJoinsModel", "counts", "[I", true)
  | _ => ("AcyclicJoinsModel", "seen", "[Z", true)
def tyX1 : Nat → FieldType := fun k => match k with
  | 0 => .array .boolean
  | 1 => .array .int
  | _ => .array .boolean
abbrev wsX10 : List Cond := u_ws RX1 TX1 3
theorem nmX1 : ∀ a, a < 3 → ∀ b, b < 3 → a ≠ b → (TX1 a).2.1 ≠ (TX1 b).2.1 := by decide +kernel
theorem tyX1_ok : ∀ k, k < 3 → parseFieldDescriptor (TX1 k).2.2.1 = some (tyX1 k) := by decide +kernel
abbrev cX1_init : ByteArray := prog_3_method_1_code
def yX1_init : MethodName := ⟨RX1, "<init>", "()V"⟩
abbrev cX1_put : ByteArray := prog_3_method_4_code
def yX1_put : MethodName := ⟨RX1, "put", "(III)I"⟩
abbrev cX1_isRow : ByteArray := prog_3_method_3_code
def yX1_isRow : MethodName := ⟨RX1, "isRow", "(III)Z"⟩
abbrev cX1_isValue : ByteArray := prog_3_method_2_code
def yX1_isValue : MethodName := ⟨RX1, "isValue", "(I)Z"⟩
abbrev cX1_drop : ByteArray := prog_3_method_5_code
def yX1_drop : MethodName := ⟨RX1, "drop", "(III)I"⟩
abbrev cX1_clear : ByteArray := prog_3_method_6_code
def yX1_clear : MethodName := ⟨RX1, "clear", "(I)I"⟩
abbrev cX1_rows : ByteArray := prog_3_method_7_code
def yX1_rows : MethodName := ⟨RX1, "rows", "(I)I"⟩
abbrev cX1_count : ByteArray := prog_3_method_13_code
def yX1_count : MethodName := ⟨RX1, "count", "()I"⟩
abbrev cX1_isAnswer : ByteArray := prog_3_method_12_code
def yX1_isAnswer : MethodName := ⟨RX1, "isAnswer", "(I)Z"⟩
abbrev cX1_rowOf : ByteArray := prog_3_method_11_code
def yX1_rowOf : MethodName := ⟨RX1, "rowOf", "(II)I"⟩
abbrev cX1_valueIn : ByteArray := prog_3_method_8_code
def yX1_valueIn : MethodName := ⟨RX1, "valueIn", "(II)I"⟩
abbrev cX1_answer : ByteArray := prog_3_method_14_code
def yX1_answer : MethodName := ⟨RX1, "answer", "(I)I"⟩
abbrev cX1_code : ByteArray := prog_3_method_9_code
def yX1_code : MethodName := ⟨RX1, "code", "(I)I"⟩
abbrev cX1_has : ByteArray := prog_3_method_16_code
def yX1_has : MethodName := ⟨RX1, "has", "(I)Z"⟩
abbrev cX1_isCode : ByteArray := prog_3_method_15_code
def yX1_isCode : MethodName := ⟨RX1, "isCode", "(I)Z"⟩
abbrev cX1_number : ByteArray := prog_3_method_10_code
def yX1_number : MethodName := ⟨RX1, "number", "(I)I"⟩
abbrev cX1_rank : ByteArray := prog_3_method_17_code
def yX1_rank : MethodName := ⟨RX1, "rank", "(I)I"⟩
abbrev cX1_useful : ByteArray := prog_3_method_19_code
def yX1_useful : MethodName := ⟨RX1, "useful", "(I)I"⟩
abbrev cX1_countWith : ByteArray := prog_3_method_18_code
def yX1_countWith : MethodName := ⟨RX1, "countWith", "(I)I"⟩
abbrev cX1_weight : ByteArray := prog_3_method_20_code
def yX1_weight : MethodName := ⟨RX1, "weight", "(III)I"⟩
abbrev cX1_gain : ByteArray := prog_3_method_21_code
def yX1_gain : MethodName := ⟨RX1, "gain", "(III)I"⟩
abbrev cX1_values : ByteArray := prog_3_method_23_code
def yX1_values : MethodName := ⟨RX1, "values", "(I)I"⟩
abbrev cX1_countValue : ByteArray := prog_3_method_22_code
def yX1_countValue : MethodName := ⟨RX1, "countValue", "(II)I"⟩
abbrev cX1_with : ByteArray := prog_3_method_24_code
def yX1_with : MethodName := ⟨RX1, "with", "(II)I"⟩
abbrev cX1_ends : ByteArray := prog_3_method_25_code
def yX1_ends : MethodName := ⟨RX1, "ends", "()I"⟩
abbrev cX1_sum : ByteArray := prog_3_method_26_code
def yX1_sum : MethodName := ⟨RX1, "sum", "()I"⟩
theorem q23 : (Jvm.Cond.initialized "AcyclicJoinsModel") ∈ lw_all := lw_g (lw_at lw_m1 2 rfl) rfl
theorem q167 : (Jvm.Cond.instantiable "AcyclicJoinsModel" (3 : Nat)) ∈ lw_all := lw_g (lw_at lw_m1 146 rfl) rfl
theorem q169 : (Jvm.Cond.instanceMethod ({ cls := "AcyclicJoinsModel", name := "<init>", desc := "()V" } : Jvm.MethodName)) ∈ lw_all := lw_g (lw_at lw_m1 148 rfl) rfl
theorem q170 : (Jvm.Cond.code ({ cls := "AcyclicJoinsModel", name := "<init>", desc := "()V" } : Jvm.MethodName) prog_3_method_1_code (1 : Nat) (Option.none : Option Jvm.ClassFile.FieldType)) ∈ lw_all := lw_g (lw_at lw_m1 149 rfl) rfl
theorem q171 : (Jvm.Cond.methodLink "AcyclicJoinsModel" (1 : Nat) ({ cls := "java/lang/Object", name := "<init>", desc := "()V" } : Jvm.MethodName)) ∈ lw_all := lw_g (lw_at lw_m1 150 rfl) rfl
theorem q172 : (Jvm.Cond.fieldLink "AcyclicJoinsModel" (7 : Nat) "AcyclicJoinsModel" "rows" "[Z") ∈ lw_all := lw_g (lw_at lw_m1 151 rfl) rfl
theorem q173 : (Jvm.Cond.fieldLink "AcyclicJoinsModel" (13 : Nat) "AcyclicJoinsModel" "counts" "[I") ∈ lw_all := lw_g (lw_at lw_m1 152 rfl) rfl
theorem q174 : (Jvm.Cond.fieldLink "AcyclicJoinsModel" (17 : Nat) "AcyclicJoinsModel" "seen" "[Z") ∈ lw_all := lw_g (lw_at lw_m1 153 rfl) rfl
theorem q175 : (Jvm.Cond.laysFinal "AcyclicJoinsModel" "AcyclicJoinsModel" "rows" "[Z") ∈ lw_all := lw_g (lw_at lw_m1 154 rfl) rfl
theorem q176 : (Jvm.Cond.soleField "AcyclicJoinsModel" "rows") ∈ lw_all := lw_g (lw_at lw_m1 155 rfl) rfl
theorem q177 : (Jvm.Cond.laysFinal "AcyclicJoinsModel" "AcyclicJoinsModel" "counts" "[I") ∈ lw_all := lw_g (lw_at lw_m1 156 rfl) rfl
theorem q178 : (Jvm.Cond.soleField "AcyclicJoinsModel" "counts") ∈ lw_all := lw_g (lw_at lw_m1 157 rfl) rfl
theorem q179 : (Jvm.Cond.laysFinal "AcyclicJoinsModel" "AcyclicJoinsModel" "seen" "[Z") ∈ lw_all := lw_g (lw_at lw_m1 158 rfl) rfl
theorem q180 : (Jvm.Cond.soleField "AcyclicJoinsModel" "seen") ∈ lw_all := lw_g (lw_at lw_m1 159 rfl) rfl
theorem q181 : (Jvm.Cond.superclass "AcyclicJoinsModel" "java/lang/Object") ∈ lw_all := lw_g (lw_at lw_m1 160 rfl) rfl
theorem q184 : (Jvm.Cond.instanceMethod ({ cls := "AcyclicJoinsModel", name := "put", desc := "(III)I" } : Jvm.MethodName)) ∈ lw_all := lw_g (lw_at lw_m1 163 rfl) rfl
theorem q185 : (Jvm.Cond.selects "AcyclicJoinsModel" ({ cls := "AcyclicJoinsModel", name := "put", desc := "(III)I" } : Jvm.MethodName) ({ cls := "AcyclicJoinsModel", name := "put", desc := "(III)I" } : Jvm.MethodName)) ∈ lw_all := lw_g (lw_at lw_m1 164 rfl) rfl
theorem q186 : (Jvm.Cond.code ({ cls := "AcyclicJoinsModel", name := "put", desc := "(III)I" } : Jvm.MethodName) prog_3_method_4_code (4 : Nat) (Option.some Jvm.ClassFile.FieldType.int)) ∈ lw_all := lw_g (lw_at lw_m1 165 rfl) rfl
theorem q187 : (Jvm.Cond.methodLink "AcyclicJoinsModel" (24 : Nat) ({ cls := "AcyclicJoinsModel", name := "isRow", desc := "(III)Z" } : Jvm.MethodName)) ∈ lw_all := lw_g (lw_at lw_m1 166 rfl) rfl
theorem q188 : (Jvm.Cond.privateMethod ({ cls := "AcyclicJoinsModel", name := "isRow", desc := "(III)Z" } : Jvm.MethodName)) ∈ lw_tbl := lw_at lw_m1 167 rfl
theorem q189 : (Jvm.Cond.instanceMethod ({ cls := "AcyclicJoinsModel", name := "isRow", desc := "(III)Z" } : Jvm.MethodName)) ∈ lw_all := lw_g (lw_at lw_m1 168 rfl) rfl
theorem q190 : (Jvm.Cond.code ({ cls := "AcyclicJoinsModel", name := "isRow", desc := "(III)Z" } : Jvm.MethodName) prog_3_method_3_code (4 : Nat) (Option.some Jvm.ClassFile.FieldType.boolean)) ∈ lw_all := lw_g (lw_at lw_m1 169 rfl) rfl
theorem q191 : (Jvm.Cond.methodLink "AcyclicJoinsModel" (20 : Nat) ({ cls := "AcyclicJoinsModel", name := "isValue", desc := "(I)Z" } : Jvm.MethodName)) ∈ lw_all := lw_g (lw_at lw_m1 170 rfl) rfl
theorem q192 : (Jvm.Cond.privateMethod ({ cls := "AcyclicJoinsModel", name := "isValue", desc := "(I)Z" } : Jvm.MethodName)) ∈ lw_tbl := lw_at lw_m1 171 rfl
theorem q193 : (Jvm.Cond.instanceMethod ({ cls := "AcyclicJoinsModel", name := "isValue", desc := "(I)Z" } : Jvm.MethodName)) ∈ lw_all := lw_g (lw_at lw_m1 172 rfl) rfl
theorem q194 : (Jvm.Cond.code ({ cls := "AcyclicJoinsModel", name := "isValue", desc := "(I)Z" } : Jvm.MethodName) prog_3_method_2_code (2 : Nat) (Option.some Jvm.ClassFile.FieldType.boolean)) ∈ lw_all := lw_g (lw_at lw_m1 173 rfl) rfl
theorem q196 : (Jvm.Cond.instanceMethod ({ cls := "AcyclicJoinsModel", name := "drop", desc := "(III)I" } : Jvm.MethodName)) ∈ lw_all := lw_g (lw_at lw_m1 175 rfl) rfl
theorem q197 : (Jvm.Cond.selects "AcyclicJoinsModel" ({ cls := "AcyclicJoinsModel", name := "drop", desc := "(III)I" } : Jvm.MethodName) ({ cls := "AcyclicJoinsModel", name := "drop", desc := "(III)I" } : Jvm.MethodName)) ∈ lw_all := lw_g (lw_at lw_m1 176 rfl) rfl
theorem q198 : (Jvm.Cond.code ({ cls := "AcyclicJoinsModel", name := "drop", desc := "(III)I" } : Jvm.MethodName) prog_3_method_5_code (4 : Nat) (Option.some Jvm.ClassFile.FieldType.int)) ∈ lw_all := lw_g (lw_at lw_m1 177 rfl) rfl
theorem q200 : (Jvm.Cond.instanceMethod ({ cls := "AcyclicJoinsModel", name := "clear", desc := "(I)I" } : Jvm.MethodName)) ∈ lw_all := lw_g (lw_at lw_m1 179 rfl) rfl
theorem q201 : (Jvm.Cond.selects "AcyclicJoinsModel" ({ cls := "AcyclicJoinsModel", name := "clear", desc := "(I)I" } : Jvm.MethodName) ({ cls := "AcyclicJoinsModel", name := "clear", desc := "(I)I" } : Jvm.MethodName)) ∈ lw_all := lw_g (lw_at lw_m1 180 rfl) rfl
theorem q202 : (Jvm.Cond.code ({ cls := "AcyclicJoinsModel", name := "clear", desc := "(I)I" } : Jvm.MethodName) prog_3_method_6_code (4 : Nat) (Option.some Jvm.ClassFile.FieldType.int)) ∈ lw_all := lw_g (lw_at lw_m1 181 rfl) rfl
theorem q204 : (Jvm.Cond.instanceMethod ({ cls := "AcyclicJoinsModel", name := "rows", desc := "(I)I" } : Jvm.MethodName)) ∈ lw_all := lw_g (lw_at lw_m1 183 rfl) rfl
theorem q205 : (Jvm.Cond.selects "AcyclicJoinsModel" ({ cls := "AcyclicJoinsModel", name := "rows", desc := "(I)I" } : Jvm.MethodName) ({ cls := "AcyclicJoinsModel", name := "rows", desc := "(I)I" } : Jvm.MethodName)) ∈ lw_all := lw_g (lw_at lw_m1 184 rfl) rfl
theorem q206 : (Jvm.Cond.code ({ cls := "AcyclicJoinsModel", name := "rows", desc := "(I)I" } : Jvm.MethodName) prog_3_method_7_code (2 : Nat) (Option.some Jvm.ClassFile.FieldType.int)) ∈ lw_all := lw_g (lw_at lw_m1 185 rfl) rfl
theorem q208 : (Jvm.Cond.instanceMethod ({ cls := "AcyclicJoinsModel", name := "count", desc := "()I" } : Jvm.MethodName)) ∈ lw_all := lw_g (lw_at lw_m1 187 rfl) rfl
theorem q209 : (Jvm.Cond.selects "AcyclicJoinsModel" ({ cls := "AcyclicJoinsModel", name := "count", desc := "()I" } : Jvm.MethodName) ({ cls := "AcyclicJoinsModel", name := "count", desc := "()I" } : Jvm.MethodName)) ∈ lw_all := lw_g (lw_at lw_m1 188 rfl) rfl
theorem q210 : (Jvm.Cond.code ({ cls := "AcyclicJoinsModel", name := "count", desc := "()I" } : Jvm.MethodName) prog_3_method_13_code (3 : Nat) (Option.some Jvm.ClassFile.FieldType.int)) ∈ lw_all := lw_g (lw_at lw_m1 189 rfl) rfl
theorem q211 : (Jvm.Cond.constant "AcyclicJoinsModel" (35 : Nat) (32768 : Int32)) ∈ lw_all := lw_g (lw_at lw_m1 190 rfl) rfl
theorem q212 : (Jvm.Cond.methodLink "AcyclicJoinsModel" (36 : Nat) ({ cls := "AcyclicJoinsModel", name := "isAnswer", desc := "(I)Z" } : Jvm.MethodName)) ∈ lw_all := lw_g (lw_at lw_m1 191 rfl) rfl
theorem q213 : (Jvm.Cond.privateMethod ({ cls := "AcyclicJoinsModel", name := "isAnswer", desc := "(I)Z" } : Jvm.MethodName)) ∈ lw_tbl := lw_at lw_m1 192 rfl
theorem q214 : (Jvm.Cond.instanceMethod ({ cls := "AcyclicJoinsModel", name := "isAnswer", desc := "(I)Z" } : Jvm.MethodName)) ∈ lw_all := lw_g (lw_at lw_m1 193 rfl) rfl
theorem q215 : (Jvm.Cond.code ({ cls := "AcyclicJoinsModel", name := "isAnswer", desc := "(I)Z" } : Jvm.MethodName) prog_3_method_12_code (2 : Nat) (Option.some Jvm.ClassFile.FieldType.boolean)) ∈ lw_all := lw_g (lw_at lw_m1 194 rfl) rfl
theorem q216 : (Jvm.Cond.methodLink "AcyclicJoinsModel" (32 : Nat) ({ cls := "AcyclicJoinsModel", name := "rowOf", desc := "(II)I" } : Jvm.MethodName)) ∈ lw_all := lw_g (lw_at lw_m1 195 rfl) rfl
theorem q217 : (Jvm.Cond.privateMethod ({ cls := "AcyclicJoinsModel", name := "rowOf", desc := "(II)I" } : Jvm.MethodName)) ∈ lw_tbl := lw_at lw_m1 196 rfl
theorem q218 : (Jvm.Cond.instanceMethod ({ cls := "AcyclicJoinsModel", name := "rowOf", desc := "(II)I" } : Jvm.MethodName)) ∈ lw_all := lw_g (lw_at lw_m1 197 rfl) rfl
theorem q219 : (Jvm.Cond.code ({ cls := "AcyclicJoinsModel", name := "rowOf", desc := "(II)I" } : Jvm.MethodName) prog_3_method_11_code (5 : Nat) (Option.some Jvm.ClassFile.FieldType.int)) ∈ lw_all := lw_g (lw_at lw_m1 198 rfl) rfl
theorem q220 : (Jvm.Cond.methodLink "AcyclicJoinsModel" (28 : Nat) ({ cls := "AcyclicJoinsModel", name := "valueIn", desc := "(II)I" } : Jvm.MethodName)) ∈ lw_all := lw_g (lw_at lw_m1 199 rfl) rfl
theorem q221 : (Jvm.Cond.privateMethod ({ cls := "AcyclicJoinsModel", name := "valueIn", desc := "(II)I" } : Jvm.MethodName)) ∈ lw_tbl := lw_at lw_m1 200 rfl
theorem q222 : (Jvm.Cond.instanceMethod ({ cls := "AcyclicJoinsModel", name := "valueIn", desc := "(II)I" } : Jvm.MethodName)) ∈ lw_all := lw_g (lw_at lw_m1 201 rfl) rfl
theorem q223 : (Jvm.Cond.code ({ cls := "AcyclicJoinsModel", name := "valueIn", desc := "(II)I" } : Jvm.MethodName) prog_3_method_8_code (3 : Nat) (Option.some Jvm.ClassFile.FieldType.int)) ∈ lw_all := lw_g (lw_at lw_m1 202 rfl) rfl
theorem q225 : (Jvm.Cond.instanceMethod ({ cls := "AcyclicJoinsModel", name := "answer", desc := "(I)I" } : Jvm.MethodName)) ∈ lw_all := lw_g (lw_at lw_m1 204 rfl) rfl
theorem q226 : (Jvm.Cond.selects "AcyclicJoinsModel" ({ cls := "AcyclicJoinsModel", name := "answer", desc := "(I)I" } : Jvm.MethodName) ({ cls := "AcyclicJoinsModel", name := "answer", desc := "(I)I" } : Jvm.MethodName)) ∈ lw_all := lw_g (lw_at lw_m1 205 rfl) rfl
theorem q227 : (Jvm.Cond.code ({ cls := "AcyclicJoinsModel", name := "answer", desc := "(I)I" } : Jvm.MethodName) prog_3_method_14_code (4 : Nat) (Option.some Jvm.ClassFile.FieldType.int)) ∈ lw_all := lw_g (lw_at lw_m1 206 rfl) rfl
theorem q228 : (Jvm.Cond.methodLink "AcyclicJoinsModel" (39 : Nat) ({ cls := "AcyclicJoinsModel", name := "code", desc := "(I)I" } : Jvm.MethodName)) ∈ lw_all := lw_g (lw_at lw_m1 207 rfl) rfl
theorem q229 : (Jvm.Cond.privateMethod ({ cls := "AcyclicJoinsModel", name := "code", desc := "(I)I" } : Jvm.MethodName)) ∈ lw_tbl := lw_at lw_m1 208 rfl
theorem q230 : (Jvm.Cond.instanceMethod ({ cls := "AcyclicJoinsModel", name := "code", desc := "(I)I" } : Jvm.MethodName)) ∈ lw_all := lw_g (lw_at lw_m1 209 rfl) rfl
theorem q231 : (Jvm.Cond.code ({ cls := "AcyclicJoinsModel", name := "code", desc := "(I)I" } : Jvm.MethodName) prog_3_method_9_code (4 : Nat) (Option.some Jvm.ClassFile.FieldType.int)) ∈ lw_all := lw_g (lw_at lw_m1 210 rfl) rfl
theorem q233 : (Jvm.Cond.instanceMethod ({ cls := "AcyclicJoinsModel", name := "has", desc := "(I)Z" } : Jvm.MethodName)) ∈ lw_all := lw_g (lw_at lw_m1 212 rfl) rfl
theorem q234 : (Jvm.Cond.selects "AcyclicJoinsModel" ({ cls := "AcyclicJoinsModel", name := "has", desc := "(I)Z" } : Jvm.MethodName) ({ cls := "AcyclicJoinsModel", name := "has", desc := "(I)Z" } : Jvm.MethodName)) ∈ lw_all := lw_g (lw_at lw_m1 213 rfl) rfl
theorem q235 : (Jvm.Cond.code ({ cls := "AcyclicJoinsModel", name := "has", desc := "(I)Z" } : Jvm.MethodName) prog_3_method_16_code (3 : Nat) (Option.some Jvm.ClassFile.FieldType.boolean)) ∈ lw_all := lw_g (lw_at lw_m1 214 rfl) rfl
theorem q236 : (Jvm.Cond.methodLink "AcyclicJoinsModel" (43 : Nat) ({ cls := "AcyclicJoinsModel", name := "isCode", desc := "(I)Z" } : Jvm.MethodName)) ∈ lw_all := lw_g (lw_at lw_m1 215 rfl) rfl
theorem q237 : (Jvm.Cond.privateMethod ({ cls := "AcyclicJoinsModel", name := "isCode", desc := "(I)Z" } : Jvm.MethodName)) ∈ lw_tbl := lw_at lw_m1 216 rfl
theorem q238 : (Jvm.Cond.instanceMethod ({ cls := "AcyclicJoinsModel", name := "isCode", desc := "(I)Z" } : Jvm.MethodName)) ∈ lw_all := lw_g (lw_at lw_m1 217 rfl) rfl
theorem q239 : (Jvm.Cond.code ({ cls := "AcyclicJoinsModel", name := "isCode", desc := "(I)Z" } : Jvm.MethodName) prog_3_method_15_code (2 : Nat) (Option.some Jvm.ClassFile.FieldType.boolean)) ∈ lw_all := lw_g (lw_at lw_m1 218 rfl) rfl
theorem q240 : (Jvm.Cond.methodLink "AcyclicJoinsModel" (46 : Nat) ({ cls := "AcyclicJoinsModel", name := "number", desc := "(I)I" } : Jvm.MethodName)) ∈ lw_all := lw_g (lw_at lw_m1 219 rfl) rfl
theorem q241 : (Jvm.Cond.privateMethod ({ cls := "AcyclicJoinsModel", name := "number", desc := "(I)I" } : Jvm.MethodName)) ∈ lw_tbl := lw_at lw_m1 220 rfl
theorem q242 : (Jvm.Cond.instanceMethod ({ cls := "AcyclicJoinsModel", name := "number", desc := "(I)I" } : Jvm.MethodName)) ∈ lw_all := lw_g (lw_at lw_m1 221 rfl) rfl
theorem q243 : (Jvm.Cond.code ({ cls := "AcyclicJoinsModel", name := "number", desc := "(I)I" } : Jvm.MethodName) prog_3_method_10_code (4 : Nat) (Option.some Jvm.ClassFile.FieldType.int)) ∈ lw_all := lw_g (lw_at lw_m1 222 rfl) rfl
theorem q245 : (Jvm.Cond.instanceMethod ({ cls := "AcyclicJoinsModel", name := "rank", desc := "(I)I" } : Jvm.MethodName)) ∈ lw_all := lw_g (lw_at lw_m1 224 rfl) rfl
theorem q246 : (Jvm.Cond.selects "AcyclicJoinsModel" ({ cls := "AcyclicJoinsModel", name := "rank", desc := "(I)I" } : Jvm.MethodName) ({ cls := "AcyclicJoinsModel", name := "rank", desc := "(I)I" } : Jvm.MethodName)) ∈ lw_all := lw_g (lw_at lw_m1 225 rfl) rfl
theorem q247 : (Jvm.Cond.code ({ cls := "AcyclicJoinsModel", name := "rank", desc := "(I)I" } : Jvm.MethodName) prog_3_method_17_code (5 : Nat) (Option.some Jvm.ClassFile.FieldType.int)) ∈ lw_all := lw_g (lw_at lw_m1 226 rfl) rfl
theorem q249 : (Jvm.Cond.instanceMethod ({ cls := "AcyclicJoinsModel", name := "useful", desc := "(I)I" } : Jvm.MethodName)) ∈ lw_all := lw_g (lw_at lw_m1 228 rfl) rfl
theorem q250 : (Jvm.Cond.selects "AcyclicJoinsModel" ({ cls := "AcyclicJoinsModel", name := "useful", desc := "(I)I" } : Jvm.MethodName) ({ cls := "AcyclicJoinsModel", name := "useful", desc := "(I)I" } : Jvm.MethodName)) ∈ lw_all := lw_g (lw_at lw_m1 229 rfl) rfl
theorem q251 : (Jvm.Cond.code ({ cls := "AcyclicJoinsModel", name := "useful", desc := "(I)I" } : Jvm.MethodName) prog_3_method_19_code (4 : Nat) (Option.some Jvm.ClassFile.FieldType.int)) ∈ lw_all := lw_g (lw_at lw_m1 230 rfl) rfl
theorem q252 : (Jvm.Cond.methodLink "AcyclicJoinsModel" (49 : Nat) ({ cls := "AcyclicJoinsModel", name := "countWith", desc := "(I)I" } : Jvm.MethodName)) ∈ lw_all := lw_g (lw_at lw_m1 231 rfl) rfl
theorem q253 : (Jvm.Cond.privateMethod ({ cls := "AcyclicJoinsModel", name := "countWith", desc := "(I)I" } : Jvm.MethodName)) ∈ lw_tbl := lw_at lw_m1 232 rfl
theorem q254 : (Jvm.Cond.instanceMethod ({ cls := "AcyclicJoinsModel", name := "countWith", desc := "(I)I" } : Jvm.MethodName)) ∈ lw_all := lw_g (lw_at lw_m1 233 rfl) rfl
theorem q255 : (Jvm.Cond.code ({ cls := "AcyclicJoinsModel", name := "countWith", desc := "(I)I" } : Jvm.MethodName) prog_3_method_18_code (4 : Nat) (Option.some Jvm.ClassFile.FieldType.int)) ∈ lw_all := lw_g (lw_at lw_m1 234 rfl) rfl
theorem q257 : (Jvm.Cond.instanceMethod ({ cls := "AcyclicJoinsModel", name := "weight", desc := "(III)I" } : Jvm.MethodName)) ∈ lw_all := lw_g (lw_at lw_m1 236 rfl) rfl
theorem q258 : (Jvm.Cond.selects "AcyclicJoinsModel" ({ cls := "AcyclicJoinsModel", name := "weight", desc := "(III)I" } : Jvm.MethodName) ({ cls := "AcyclicJoinsModel", name := "weight", desc := "(III)I" } : Jvm.MethodName)) ∈ lw_all := lw_g (lw_at lw_m1 237 rfl) rfl
theorem q259 : (Jvm.Cond.code ({ cls := "AcyclicJoinsModel", name := "weight", desc := "(III)I" } : Jvm.MethodName) prog_3_method_20_code (4 : Nat) (Option.some Jvm.ClassFile.FieldType.int)) ∈ lw_all := lw_g (lw_at lw_m1 238 rfl) rfl
theorem q261 : (Jvm.Cond.instanceMethod ({ cls := "AcyclicJoinsModel", name := "gain", desc := "(III)I" } : Jvm.MethodName)) ∈ lw_all := lw_g (lw_at lw_m2 0 rfl) rfl
theorem q262 : (Jvm.Cond.selects "AcyclicJoinsModel" ({ cls := "AcyclicJoinsModel", name := "gain", desc := "(III)I" } : Jvm.MethodName) ({ cls := "AcyclicJoinsModel", name := "gain", desc := "(III)I" } : Jvm.MethodName)) ∈ lw_all := lw_g (lw_at lw_m2 1 rfl) rfl
theorem q263 : (Jvm.Cond.code ({ cls := "AcyclicJoinsModel", name := "gain", desc := "(III)I" } : Jvm.MethodName) prog_3_method_21_code (6 : Nat) (Option.some Jvm.ClassFile.FieldType.int)) ∈ lw_all := lw_g (lw_at lw_m2 2 rfl) rfl
theorem q265 : (Jvm.Cond.instanceMethod ({ cls := "AcyclicJoinsModel", name := "values", desc := "(I)I" } : Jvm.MethodName)) ∈ lw_all := lw_g (lw_at lw_m2 4 rfl) rfl
theorem q266 : (Jvm.Cond.selects "AcyclicJoinsModel" ({ cls := "AcyclicJoinsModel", name := "values", desc := "(I)I" } : Jvm.MethodName) ({ cls := "AcyclicJoinsModel", name := "values", desc := "(I)I" } : Jvm.MethodName)) ∈ lw_all := lw_g (lw_at lw_m2 5 rfl) rfl
theorem q267 : (Jvm.Cond.code ({ cls := "AcyclicJoinsModel", name := "values", desc := "(I)I" } : Jvm.MethodName) prog_3_method_23_code (4 : Nat) (Option.some Jvm.ClassFile.FieldType.int)) ∈ lw_all := lw_g (lw_at lw_m2 6 rfl) rfl
theorem q268 : (Jvm.Cond.methodLink "AcyclicJoinsModel" (52 : Nat) ({ cls := "AcyclicJoinsModel", name := "countValue", desc := "(II)I" } : Jvm.MethodName)) ∈ lw_all := lw_g (lw_at lw_m2 7 rfl) rfl
theorem q269 : (Jvm.Cond.privateMethod ({ cls := "AcyclicJoinsModel", name := "countValue", desc := "(II)I" } : Jvm.MethodName)) ∈ lw_tbl := lw_at lw_m2 8 rfl
theorem q270 : (Jvm.Cond.instanceMethod ({ cls := "AcyclicJoinsModel", name := "countValue", desc := "(II)I" } : Jvm.MethodName)) ∈ lw_all := lw_g (lw_at lw_m2 9 rfl) rfl
theorem q271 : (Jvm.Cond.code ({ cls := "AcyclicJoinsModel", name := "countValue", desc := "(II)I" } : Jvm.MethodName) prog_3_method_22_code (5 : Nat) (Option.some Jvm.ClassFile.FieldType.int)) ∈ lw_all := lw_g (lw_at lw_m2 10 rfl) rfl
theorem q273 : (Jvm.Cond.instanceMethod ({ cls := "AcyclicJoinsModel", name := "with", desc := "(II)I" } : Jvm.MethodName)) ∈ lw_all := lw_g (lw_at lw_m2 12 rfl) rfl
theorem q274 : (Jvm.Cond.selects "AcyclicJoinsModel" ({ cls := "AcyclicJoinsModel", name := "with", desc := "(II)I" } : Jvm.MethodName) ({ cls := "AcyclicJoinsModel", name := "with", desc := "(II)I" } : Jvm.MethodName)) ∈ lw_all := lw_g (lw_at lw_m2 13 rfl) rfl
theorem q275 : (Jvm.Cond.code ({ cls := "AcyclicJoinsModel", name := "with", desc := "(II)I" } : Jvm.MethodName) prog_3_method_24_code (3 : Nat) (Option.some Jvm.ClassFile.FieldType.int)) ∈ lw_all := lw_g (lw_at lw_m2 14 rfl) rfl
theorem q277 : (Jvm.Cond.instanceMethod ({ cls := "AcyclicJoinsModel", name := "ends", desc := "()I" } : Jvm.MethodName)) ∈ lw_all := lw_g (lw_at lw_m2 16 rfl) rfl
theorem q278 : (Jvm.Cond.selects "AcyclicJoinsModel" ({ cls := "AcyclicJoinsModel", name := "ends", desc := "()I" } : Jvm.MethodName) ({ cls := "AcyclicJoinsModel", name := "ends", desc := "()I" } : Jvm.MethodName)) ∈ lw_all := lw_g (lw_at lw_m2 17 rfl) rfl
theorem q279 : (Jvm.Cond.code ({ cls := "AcyclicJoinsModel", name := "ends", desc := "()I" } : Jvm.MethodName) prog_3_method_25_code (4 : Nat) (Option.some Jvm.ClassFile.FieldType.int)) ∈ lw_all := lw_g (lw_at lw_m2 18 rfl) rfl
theorem q281 : (Jvm.Cond.instanceMethod ({ cls := "AcyclicJoinsModel", name := "sum", desc := "()I" } : Jvm.MethodName)) ∈ lw_all := lw_g (lw_at lw_m2 20 rfl) rfl
theorem q282 : (Jvm.Cond.selects "AcyclicJoinsModel" ({ cls := "AcyclicJoinsModel", name := "sum", desc := "()I" } : Jvm.MethodName) ({ cls := "AcyclicJoinsModel", name := "sum", desc := "()I" } : Jvm.MethodName)) ∈ lw_all := lw_g (lw_at lw_m2 21 rfl) rfl
theorem q283 : (Jvm.Cond.code ({ cls := "AcyclicJoinsModel", name := "sum", desc := "()I" } : Jvm.MethodName) prog_3_method_26_code (3 : Nat) (Option.some Jvm.ClassFile.FieldType.int)) ∈ lw_all := lw_g (lw_at lw_m2 22 rfl) rfl
theorem in_X1 : ∀ w ∈ wsX10, w ∈ lw_all := lw_in wsX10 [175, 177, 179] (by decide +kernel) (by decide +kernel)
theorem q60 : (Jvm.Cond.arrayClass Jvm.ClassFile.FieldType.int) ∈ lw_all := lw_g (lw_at lw_m1 39 rfl) rfl
theorem q182 : (Jvm.Cond.arrayClass Jvm.ClassFile.FieldType.boolean) ∈ lw_all := lw_g (lw_at lw_m1 161 rfl) rfl
theorem q21 : (Jvm.Cond.initialized "AcyclicJoinsLaw") ∈ lw_all := lw_g (lw_at lw_m1 0 rfl) rfl
theorem q24 : (Jvm.Cond.classLink "AcyclicJoinsLaw" (7 : Nat) "AcyclicJoins") ∈ lw_all := lw_g (lw_at lw_m1 3 rfl) rfl
theorem q26 : (Jvm.Cond.methodLink "AcyclicJoinsLaw" (9 : Nat) ({ cls := "AcyclicJoins", name := "<init>", desc := "()V" } : Jvm.MethodName)) ∈ lw_all := lw_g (lw_at lw_m1 5 rfl) rfl
theorem q61 : (Jvm.Cond.methodLink "AcyclicJoinsLaw" (13 : Nat) ({ cls := "AcyclicJoins", name := "put", desc := "(III)I" } : Jvm.MethodName)) ∈ lw_all := lw_g (lw_at lw_m1 40 rfl) rfl
theorem q73 : (Jvm.Cond.methodLink "AcyclicJoinsLaw" (18 : Nat) ({ cls := "AcyclicJoins", name := "drop", desc := "(III)I" } : Jvm.MethodName)) ∈ lw_all := lw_g (lw_at lw_m1 52 rfl) rfl
theorem q77 : (Jvm.Cond.methodLink "AcyclicJoinsLaw" (22 : Nat) ({ cls := "AcyclicJoins", name := "clear", desc := "(I)I" } : Jvm.MethodName)) ∈ lw_all := lw_g (lw_at lw_m1 56 rfl) rfl
theorem q81 : (Jvm.Cond.methodLink "AcyclicJoinsLaw" (27 : Nat) ({ cls := "AcyclicJoins", name := "rows", desc := "(I)I" } : Jvm.MethodName)) ∈ lw_all := lw_g (lw_at lw_m1 60 rfl) rfl
theorem q85 : (Jvm.Cond.methodLink "AcyclicJoinsLaw" (31 : Nat) ({ cls := "AcyclicJoins", name := "count", desc := "()I" } : Jvm.MethodName)) ∈ lw_all := lw_g (lw_at lw_m1 64 rfl) rfl
theorem q101 : (Jvm.Cond.methodLink "AcyclicJoinsLaw" (36 : Nat) ({ cls := "AcyclicJoins", name := "answer", desc := "(I)I" } : Jvm.MethodName)) ∈ lw_all := lw_g (lw_at lw_m1 80 rfl) rfl
theorem q110 : (Jvm.Cond.methodLink "AcyclicJoinsLaw" (40 : Nat) ({ cls := "AcyclicJoins", name := "has", desc := "(I)Z" } : Jvm.MethodName)) ∈ lw_all := lw_g (lw_at lw_m1 89 rfl) rfl
theorem q118 : (Jvm.Cond.methodLink "AcyclicJoinsLaw" (45 : Nat) ({ cls := "AcyclicJoins", name := "rank", desc := "(I)I" } : Jvm.MethodName)) ∈ lw_all := lw_g (lw_at lw_m1 97 rfl) rfl
theorem q126 : (Jvm.Cond.methodLink "AcyclicJoinsLaw" (49 : Nat) ({ cls := "AcyclicJoins", name := "useful", desc := "(I)I" } : Jvm.MethodName)) ∈ lw_all := lw_g (lw_at lw_m1 105 rfl) rfl
theorem q134 : (Jvm.Cond.methodLink "AcyclicJoinsLaw" (53 : Nat) ({ cls := "AcyclicJoins", name := "weight", desc := "(III)I" } : Jvm.MethodName)) ∈ lw_all := lw_g (lw_at lw_m1 113 rfl) rfl
theorem q138 : (Jvm.Cond.methodLink "AcyclicJoinsLaw" (57 : Nat) ({ cls := "AcyclicJoins", name := "gain", desc := "(III)I" } : Jvm.MethodName)) ∈ lw_all := lw_g (lw_at lw_m1 117 rfl) rfl
theorem q142 : (Jvm.Cond.methodLink "AcyclicJoinsLaw" (61 : Nat) ({ cls := "AcyclicJoins", name := "values", desc := "(I)I" } : Jvm.MethodName)) ∈ lw_all := lw_g (lw_at lw_m1 121 rfl) rfl
theorem q150 : (Jvm.Cond.methodLink "AcyclicJoinsLaw" (65 : Nat) ({ cls := "AcyclicJoins", name := "with", desc := "(II)I" } : Jvm.MethodName)) ∈ lw_all := lw_g (lw_at lw_m1 129 rfl) rfl
theorem q154 : (Jvm.Cond.methodLink "AcyclicJoinsLaw" (70 : Nat) ({ cls := "AcyclicJoins", name := "ends", desc := "()I" } : Jvm.MethodName)) ∈ lw_all := lw_g (lw_at lw_m1 133 rfl) rfl
theorem q162 : (Jvm.Cond.methodLink "AcyclicJoinsLaw" (74 : Nat) ({ cls := "AcyclicJoins", name := "sum", desc := "()I" } : Jvm.MethodName)) ∈ lw_all := lw_g (lw_at lw_m1 141 rfl) rfl
theorem q166 : (Jvm.Cond.classLink "AcyclicJoinsLaw" (10 : Nat) "AcyclicJoinsModel") ∈ lw_all := lw_g (lw_at lw_m1 145 rfl) rfl
theorem q168 : (Jvm.Cond.methodLink "AcyclicJoinsLaw" (12 : Nat) ({ cls := "AcyclicJoinsModel", name := "<init>", desc := "()V" } : Jvm.MethodName)) ∈ lw_all := lw_g (lw_at lw_m1 147 rfl) rfl
theorem q183 : (Jvm.Cond.methodLink "AcyclicJoinsLaw" (17 : Nat) ({ cls := "AcyclicJoinsModel", name := "put", desc := "(III)I" } : Jvm.MethodName)) ∈ lw_all := lw_g (lw_at lw_m1 162 rfl) rfl
theorem q195 : (Jvm.Cond.methodLink "AcyclicJoinsLaw" (21 : Nat) ({ cls := "AcyclicJoinsModel", name := "drop", desc := "(III)I" } : Jvm.MethodName)) ∈ lw_all := lw_g (lw_at lw_m1 174 rfl) rfl
theorem q199 : (Jvm.Cond.methodLink "AcyclicJoinsLaw" (26 : Nat) ({ cls := "AcyclicJoinsModel", name := "clear", desc := "(I)I" } : Jvm.MethodName)) ∈ lw_all := lw_g (lw_at lw_m1 178 rfl) rfl
theorem q203 : (Jvm.Cond.methodLink "AcyclicJoinsLaw" (30 : Nat) ({ cls := "AcyclicJoinsModel", name := "rows", desc := "(I)I" } : Jvm.MethodName)) ∈ lw_all := lw_g (lw_at lw_m1 182 rfl) rfl
theorem q207 : (Jvm.Cond.methodLink "AcyclicJoinsLaw" (35 : Nat) ({ cls := "AcyclicJoinsModel", name := "count", desc := "()I" } : Jvm.MethodName)) ∈ lw_all := lw_g (lw_at lw_m1 186 rfl) rfl
theorem q224 : (Jvm.Cond.methodLink "AcyclicJoinsLaw" (39 : Nat) ({ cls := "AcyclicJoinsModel", name := "answer", desc := "(I)I" } : Jvm.MethodName)) ∈ lw_all := lw_g (lw_at lw_m1 203 rfl) rfl
theorem q232 : (Jvm.Cond.methodLink "AcyclicJoinsLaw" (44 : Nat) ({ cls := "AcyclicJoinsModel", name := "has", desc := "(I)Z" } : Jvm.MethodName)) ∈ lw_all := lw_g (lw_at lw_m1 211 rfl) rfl
theorem q244 : (Jvm.Cond.methodLink "AcyclicJoinsLaw" (48 : Nat) ({ cls := "AcyclicJoinsModel", name := "rank", desc := "(I)I" } : Jvm.MethodName)) ∈ lw_all := lw_g (lw_at lw_m1 223 rfl) rfl
theorem q248 : (Jvm.Cond.methodLink "AcyclicJoinsLaw" (52 : Nat) ({ cls := "AcyclicJoinsModel", name := "useful", desc := "(I)I" } : Jvm.MethodName)) ∈ lw_all := lw_g (lw_at lw_m1 227 rfl) rfl
theorem q256 : (Jvm.Cond.methodLink "AcyclicJoinsLaw" (56 : Nat) ({ cls := "AcyclicJoinsModel", name := "weight", desc := "(III)I" } : Jvm.MethodName)) ∈ lw_all := lw_g (lw_at lw_m1 235 rfl) rfl
theorem q260 : (Jvm.Cond.methodLink "AcyclicJoinsLaw" (60 : Nat) ({ cls := "AcyclicJoinsModel", name := "gain", desc := "(III)I" } : Jvm.MethodName)) ∈ lw_all := lw_g (lw_at lw_m1 239 rfl) rfl
theorem q264 : (Jvm.Cond.methodLink "AcyclicJoinsLaw" (64 : Nat) ({ cls := "AcyclicJoinsModel", name := "values", desc := "(I)I" } : Jvm.MethodName)) ∈ lw_all := lw_g (lw_at lw_m2 3 rfl) rfl
theorem q272 : (Jvm.Cond.methodLink "AcyclicJoinsLaw" (69 : Nat) ({ cls := "AcyclicJoinsModel", name := "with", desc := "(II)I" } : Jvm.MethodName)) ∈ lw_all := lw_g (lw_at lw_m2 11 rfl) rfl
theorem q276 : (Jvm.Cond.methodLink "AcyclicJoinsLaw" (73 : Nat) ({ cls := "AcyclicJoinsModel", name := "ends", desc := "()I" } : Jvm.MethodName)) ∈ lw_all := lw_g (lw_at lw_m2 15 rfl) rfl
theorem q280 : (Jvm.Cond.methodLink "AcyclicJoinsLaw" (77 : Nat) ({ cls := "AcyclicJoinsModel", name := "sum", desc := "()I" } : Jvm.MethodName)) ∈ lw_all := lw_g (lw_at lw_m2 19 rfl) rfl
abbrev cL_law : ByteArray := code
end
end
section
section
set_option maxRecDepth 100000
theorem dX0_init_0 : decode cX0_init 0 = .ok (.aload_n 0, 1) := by decide +kernel
theorem dX0_init_1 : decode cX0_init 1 = .ok (.invokespecial 1, 3) := by decide +kernel
theorem dX0_init_4 : decode cX0_init 4 = .ok (.aload_n 0, 1) := by decide +kernel
theorem dX0_init_5 : decode cX0_init 5 = .ok (.bipush 32, 2) := by decide +kernel
theorem dX0_init_7 : decode cX0_init 7 = .ok (.newarray .int, 2) := by decide +kernel
theorem dX0_init_9 : decode cX0_init 9 = .ok (.putfield 7, 3) := by decide +kernel
theorem dX0_init_12 : decode cX0_init 12 = .ok (.aload_n 0, 1) := by decide +kernel
theorem dX0_init_13 : decode cX0_init 13 = .ok (.iconst 4, 1) := by decide +kernel
theorem dX0_init_14 : decode cX0_init 14 = .ok (.newarray .int, 2) := by decide +kernel
theorem dX0_init_16 : decode cX0_init 16 = .ok (.putfield 13, 3) := by decide +kernel
theorem dX0_init_19 : decode cX0_init 19 = .ok (.aload_n 0, 1) := by decide +kernel
theorem dX0_init_20 : decode cX0_init 20 = .ok (.bipush 8, 2) := by decide +kernel
theorem dX0_init_22 : decode cX0_init 22 = .ok (.newarray .int, 2) := by decide +kernel
theorem dX0_init_24 : decode cX0_init 24 = .ok (.putfield 16, 3) := by decide +kernel
theorem dX0_init_27 : decode cX0_init 27 = .ok (.aload_n 0, 1) := by decide +kernel
theorem dX0_init_28 : decode cX0_init 28 = .ok (.bipush 8, 2) := by decide +kernel
theorem dX0_init_30 : decode cX0_init 30 = .ok (.newarray .int, 2) := by decide +kernel
theorem dX0_init_32 : decode cX0_init 32 = .ok (.putfield 19, 3) := by decide +kernel
theorem dX0_init_35 : decode cX0_init 35 = .ok (.aload_n 0, 1) := by decide +kernel
theorem dX0_init_36 : decode cX0_init 36 = .ok (.bipush 8, 2) := by decide +kernel
theorem dX0_init_38 : decode cX0_init 38 = .ok (.newarray .int, 2) := by decide +kernel
theorem dX0_init_40 : decode cX0_init 40 = .ok (.putfield 22, 3) := by decide +kernel
theorem dX0_init_43 : decode cX0_init 43 = .ok (.aload_n 0, 1) := by decide +kernel
theorem dX0_init_44 : decode cX0_init 44 = .ok (.bipush 8, 2) := by decide +kernel
theorem dX0_init_46 : decode cX0_init 46 = .ok (.newarray .int, 2) := by decide +kernel
theorem dX0_init_48 : decode cX0_init 48 = .ok (.putfield 25, 3) := by decide +kernel
theorem dX0_init_51 : decode cX0_init 51 = .ok (.aload_n 0, 1) := by decide +kernel
theorem dX0_init_52 : decode cX0_init 52 = .ok (.bipush 8, 2) := by decide +kernel
theorem dX0_init_54 : decode cX0_init 54 = .ok (.newarray .int, 2) := by decide +kernel
theorem dX0_init_56 : decode cX0_init 56 = .ok (.putfield 28, 3) := by decide +kernel
theorem dX0_init_59 : decode cX0_init 59 = .ok (.return_, 1) := by decide +kernel
theorem dX0_put_0 : decode cX0_put 0 = .ok (.aload_n 0, 1) := by decide +kernel
theorem dX0_put_1 : decode cX0_put 1 = .ok (.iload_n 1, 1) := by decide +kernel
theorem dX0_put_2 : decode cX0_put 2 = .ok (.iload_n 2, 1) := by decide +kernel
theorem dX0_put_3 : decode cX0_put 3 = .ok (.iload_n 3, 1) := by decide +kernel
theorem dX0_put_4 : decode cX0_put 4 = .ok (.invokevirtual 31, 3) := by decide +kernel
theorem dX0_put_7 : decode cX0_put 7 = .ok (.ifCond .eq 5, 3) := by decide +kernel
theorem dX0_put_10 : decode cX0_put 10 = .ok (.iconst (-1), 1) := by decide +kernel
theorem dX0_put_11 : decode cX0_put 11 = .ok (.ireturn, 1) := by decide +kernel
theorem dX0_put_12 : decode cX0_put 12 = .ok (.aload_n 0, 1) := by decide +kernel
theorem dX0_put_13 : decode cX0_put 13 = .ok (.iload_n 1, 1) := by decide +kernel
theorem dX0_put_14 : decode cX0_put 14 = .ok (.iload_n 2, 1) := by decide +kernel
theorem dX0_put_15 : decode cX0_put 15 = .ok (.iload_n 3, 1) := by decide +kernel
theorem dX0_put_16 : decode cX0_put 16 = .ok (.invokevirtual 35, 3) := by decide +kernel
theorem dX0_put_19 : decode cX0_put 19 = .ok (.ifCond .eq 6, 3) := by decide +kernel
theorem dX0_put_22 : decode cX0_put 22 = .ok (.bipush (-4), 2) := by decide +kernel
theorem dX0_put_24 : decode cX0_put 24 = .ok (.ireturn, 1) := by decide +kernel
theorem dX0_put_25 : decode cX0_put 25 = .ok (.aload_n 0, 1) := by decide +kernel
theorem dX0_put_26 : decode cX0_put 26 = .ok (.getfield 13, 3) := by decide +kernel
theorem dX0_put_29 : decode cX0_put 29 = .ok (.iload_n 1, 1) := by decide +kernel
theorem dX0_put_30 : decode cX0_put 30 = .ok (.iaload, 1) := by decide +kernel
theorem dX0_put_31 : decode cX0_put 31 = .ok (.bipush 10, 2) := by decide +kernel
theorem dX0_put_33 : decode cX0_put 33 = .ok (.if_icmp .ne 6, 3) := by decide +kernel
theorem dX0_put_36 : decode cX0_put 36 = .ok (.bipush (-2), 2) := by decide +kernel
theorem dX0_put_38 : decode cX0_put 38 = .ok (.ireturn, 1) := by decide +kernel
theorem dX0_put_39 : decode cX0_put 39 = .ok (.aload_n 0, 1) := by decide +kernel
theorem dX0_put_40 : decode cX0_put 40 = .ok (.getfield 7, 3) := by decide +kernel
theorem dX0_put_43 : decode cX0_put 43 = .ok (.iload_n 1, 1) := by decide +kernel
theorem dX0_put_44 : decode cX0_put 44 = .ok (.bipush 8, 2) := by decide +kernel
theorem dX0_put_46 : decode cX0_put 46 = .ok (.imul, 1) := by decide +kernel
theorem dX0_put_47 : decode cX0_put 47 = .ok (.iload_n 2, 1) := by decide +kernel
theorem dX0_put_48 : decode cX0_put 48 = .ok (.iadd, 1) := by decide +kernel
theorem dX0_put_49 : decode cX0_put 49 = .ok (.aload_n 0, 1) := by decide +kernel
theorem dX0_put_50 : decode cX0_put 50 = .ok (.getfield 7, 3) := by decide +kernel
theorem dX0_put_53 : decode cX0_put 53 = .ok (.iload_n 1, 1) := by decide +kernel
theorem dX0_put_54 : decode cX0_put 54 = .ok (.bipush 8, 2) := by decide +kernel
theorem dX0_put_56 : decode cX0_put 56 = .ok (.imul, 1) := by decide +kernel
theorem dX0_put_57 : decode cX0_put 57 = .ok (.iload_n 2, 1) := by decide +kernel
theorem dX0_put_58 : decode cX0_put 58 = .ok (.iadd, 1) := by decide +kernel
theorem dX0_put_59 : decode cX0_put 59 = .ok (.iaload, 1) := by decide +kernel
theorem dX0_put_60 : decode cX0_put 60 = .ok (.iconst 1, 1) := by decide +kernel
theorem dX0_put_61 : decode cX0_put 61 = .ok (.iload_n 3, 1) := by decide +kernel
theorem dX0_put_62 : decode cX0_put 62 = .ok (.ishl, 1) := by decide +kernel
theorem dX0_put_63 : decode cX0_put 63 = .ok (.ior, 1) := by decide +kernel
theorem dX0_put_64 : decode cX0_put 64 = .ok (.iastore, 1) := by decide +kernel
theorem dX0_put_65 : decode cX0_put 65 = .ok (.aload_n 0, 1) := by decide +kernel
theorem dX0_put_66 : decode cX0_put 66 = .ok (.getfield 13, 3) := by decide +kernel
theorem dX0_put_69 : decode cX0_put 69 = .ok (.iload_n 1, 1) := by decide +kernel
theorem dX0_put_70 : decode cX0_put 70 = .ok (.aload_n 0, 1) := by decide +kernel
theorem dX0_put_71 : decode cX0_put 71 = .ok (.getfield 13, 3) := by decide +kernel
theorem dX0_put_74 : decode cX0_put 74 = .ok (.iload_n 1, 1) := by decide +kernel
theorem dX0_put_75 : decode cX0_put 75 = .ok (.iaload, 1) := by decide +kernel
theorem dX0_put_76 : decode cX0_put 76 = .ok (.iconst 1, 1) := by decide +kernel
theorem dX0_put_77 : decode cX0_put 77 = .ok (.iadd, 1) := by decide +kernel
theorem dX0_put_78 : decode cX0_put 78 = .ok (.iastore, 1) := by decide +kernel
theorem dX0_put_79 : decode cX0_put 79 = .ok (.aload_n 0, 1) := by decide +kernel
theorem dX0_put_80 : decode cX0_put 80 = .ok (.iconst 0, 1) := by decide +kernel
theorem dX0_put_81 : decode cX0_put 81 = .ok (.putfield 38, 3) := by decide +kernel
theorem dX0_put_84 : decode cX0_put 84 = .ok (.aload_n 0, 1) := by decide +kernel
theorem dX0_put_85 : decode cX0_put 85 = .ok (.getfield 13, 3) := by decide +kernel
theorem dX0_put_88 : decode cX0_put 88 = .ok (.iload_n 1, 1) := by decide +kernel
theorem dX0_put_89 : decode cX0_put 89 = .ok (.iaload, 1) := by decide +kernel
theorem dX0_put_90 : decode cX0_put 90 = .ok (.ireturn, 1) := by decide +kernel
theorem dX0_badRow_0 : decode cX0_badRow 0 = .ok (.iload_n 1, 1) := by decide +kernel
theorem dX0_badRow_1 : decode cX0_badRow 1 = .ok (.ifCond .lt 28, 3) := by decide +kernel
theorem dX0_badRow_4 : decode cX0_badRow 4 = .ok (.iload_n 1, 1) := by decide +kernel
theorem dX0_badRow_5 : decode cX0_badRow 5 = .ok (.iconst 4, 1) := by decide +kernel
theorem dX0_badRow_6 : decode cX0_badRow 6 = .ok (.if_icmp .ge 23, 3) := by decide +kernel
theorem dX0_badRow_9 : decode cX0_badRow 9 = .ok (.iload_n 2, 1) := by decide +kernel
theorem dX0_badRow_10 : decode cX0_badRow 10 = .ok (.ifCond .lt 19, 3) := by decide +kernel
theorem dX0_badRow_13 : decode cX0_badRow 13 = .ok (.iload_n 2, 1) := by decide +kernel
theorem dX0_badRow_14 : decode cX0_badRow 14 = .ok (.bipush 8, 2) := by decide +kernel
theorem dX0_badRow_16 : decode cX0_badRow 16 = .ok (.if_icmp .ge 13, 3) := by decide +kernel
theorem dX0_badRow_19 : decode cX0_badRow 19 = .ok (.iload_n 3, 1) := by decide +kernel
theorem dX0_badRow_20 : decode cX0_badRow 20 = .ok (.ifCond .lt 9, 3) := by decide +kernel
theorem dX0_badRow_23 : decode cX0_badRow 23 = .ok (.iload_n 3, 1) := by decide +kernel
theorem dX0_badRow_24 : decode cX0_badRow 24 = .ok (.bipush 8, 2) := by decide +kernel
theorem dX0_badRow_26 : decode cX0_badRow 26 = .ok (.if_icmp .lt 7, 3) := by decide +kernel
theorem dX0_badRow_29 : decode cX0_badRow 29 = .ok (.iconst 1, 1) := by decide +kernel
theorem dX0_badRow_30 : decode cX0_badRow 30 = .ok (.goto 4, 3) := by decide +kernel
theorem dX0_badRow_33 : decode cX0_badRow 33 = .ok (.iconst 0, 1) := by decide +kernel
theorem dX0_badRow_34 : decode cX0_badRow 34 = .ok (.ireturn, 1) := by decide +kernel
theorem dX0_there_0 : decode cX0_there 0 = .ok (.aload_n 0, 1) := by decide +kernel
theorem dX0_there_1 : decode cX0_there 1 = .ok (.getfield 7, 3) := by decide +kernel
theorem dX0_there_4 : decode cX0_there 4 = .ok (.iload_n 1, 1) := by decide +kernel
theorem dX0_there_5 : decode cX0_there 5 = .ok (.bipush 8, 2) := by decide +kernel
theorem dX0_there_7 : decode cX0_there 7 = .ok (.imul, 1) := by decide +kernel
theorem dX0_there_8 : decode cX0_there 8 = .ok (.iload_n 2, 1) := by decide +kernel
theorem dX0_there_9 : decode cX0_there 9 = .ok (.iadd, 1) := by decide +kernel
theorem dX0_there_10 : decode cX0_there 10 = .ok (.iaload, 1) := by decide +kernel
theorem dX0_there_11 : decode cX0_there 11 = .ok (.iload_n 3, 1) := by decide +kernel
theorem dX0_there_12 : decode cX0_there 12 = .ok (.ishr, 1) := by decide +kernel
theorem dX0_there_13 : decode cX0_there 13 = .ok (.iconst 1, 1) := by decide +kernel
theorem dX0_there_14 : decode cX0_there 14 = .ok (.iand, 1) := by decide +kernel
theorem dX0_there_15 : decode cX0_there 15 = .ok (.iconst 1, 1) := by decide +kernel
theorem dX0_there_16 : decode cX0_there 16 = .ok (.if_icmp .ne 7, 3) := by decide +kernel
theorem dX0_there_19 : decode cX0_there 19 = .ok (.iconst 1, 1) := by decide +kernel
theorem dX0_there_20 : decode cX0_there 20 = .ok (.goto 4, 3) := by decide +kernel
theorem dX0_there_23 : decode cX0_there 23 = .ok (.iconst 0, 1) := by decide +kernel
theorem dX0_there_24 : decode cX0_there 24 = .ok (.ireturn, 1) := by decide +kernel
theorem dX0_drop_0 : decode cX0_drop 0 = .ok (.aload_n 0, 1) := by decide +kernel
theorem dX0_drop_1 : decode cX0_drop 1 = .ok (.iload_n 1, 1) := by decide +kernel
theorem dX0_drop_2 : decode cX0_drop 2 = .ok (.iload_n 2, 1) := by decide +kernel
theorem dX0_drop_3 : decode cX0_drop 3 = .ok (.iload_n 3, 1) := by decide +kernel
theorem dX0_drop_4 : decode cX0_drop 4 = .ok (.invokevirtual 31, 3) := by decide +kernel
theorem dX0_drop_7 : decode cX0_drop 7 = .ok (.ifCond .eq 5, 3) := by decide +kernel
theorem dX0_drop_10 : decode cX0_drop 10 = .ok (.iconst (-1), 1) := by decide +kernel
theorem dX0_drop_11 : decode cX0_drop 11 = .ok (.ireturn, 1) := by decide +kernel
theorem dX0_drop_12 : decode cX0_drop 12 = .ok (.aload_n 0, 1) := by decide +kernel
theorem dX0_drop_13 : decode cX0_drop 13 = .ok (.iload_n 1, 1) := by decide +kernel
theorem dX0_drop_14 : decode cX0_drop 14 = .ok (.iload_n 2, 1) := by decide +kernel
theorem dX0_drop_15 : decode cX0_drop 15 = .ok (.iload_n 3, 1) := by decide +kernel
theorem dX0_drop_16 : decode cX0_drop 16 = .ok (.invokevirtual 35, 3) := by decide +kernel
theorem dX0_drop_19 : decode cX0_drop 19 = .ok (.ifCond .ne 6, 3) := by decide +kernel
theorem dX0_drop_22 : decode cX0_drop 22 = .ok (.bipush (-4), 2) := by decide +kernel
theorem dX0_drop_24 : decode cX0_drop 24 = .ok (.ireturn, 1) := by decide +kernel
theorem dX0_drop_25 : decode cX0_drop 25 = .ok (.aload_n 0, 1) := by decide +kernel
theorem dX0_drop_26 : decode cX0_drop 26 = .ok (.getfield 7, 3) := by decide +kernel
theorem dX0_drop_29 : decode cX0_drop 29 = .ok (.iload_n 1, 1) := by decide +kernel
theorem dX0_drop_30 : decode cX0_drop 30 = .ok (.bipush 8, 2) := by decide +kernel
theorem dX0_drop_32 : decode cX0_drop 32 = .ok (.imul, 1) := by decide +kernel
theorem dX0_drop_33 : decode cX0_drop 33 = .ok (.iload_n 2, 1) := by decide +kernel
theorem dX0_drop_34 : decode cX0_drop 34 = .ok (.iadd, 1) := by decide +kernel
theorem dX0_drop_35 : decode cX0_drop 35 = .ok (.aload_n 0, 1) := by decide +kernel
theorem dX0_drop_36 : decode cX0_drop 36 = .ok (.getfield 7, 3) := by decide +kernel
theorem dX0_drop_39 : decode cX0_drop 39 = .ok (.iload_n 1, 1) := by decide +kernel
theorem dX0_drop_40 : decode cX0_drop 40 = .ok (.bipush 8, 2) := by decide +kernel
theorem dX0_drop_42 : decode cX0_drop 42 = .ok (.imul, 1) := by decide +kernel
theorem dX0_drop_43 : decode cX0_drop 43 = .ok (.iload_n 2, 1) := by decide +kernel
theorem dX0_drop_44 : decode cX0_drop 44 = .ok (.iadd, 1) := by decide +kernel
theorem dX0_drop_45 : decode cX0_drop 45 = .ok (.iaload, 1) := by decide +kernel
theorem dX0_drop_46 : decode cX0_drop 46 = .ok (.iconst 1, 1) := by decide +kernel
theorem dX0_drop_47 : decode cX0_drop 47 = .ok (.iload_n 3, 1) := by decide +kernel
theorem dX0_drop_48 : decode cX0_drop 48 = .ok (.ishl, 1) := by decide +kernel
theorem dX0_drop_49 : decode cX0_drop 49 = .ok (.iconst (-1), 1) := by decide +kernel
theorem dX0_drop_50 : decode cX0_drop 50 = .ok (.ixor, 1) := by decide +kernel
theorem dX0_drop_51 : decode cX0_drop 51 = .ok (.iand, 1) := by decide +kernel
theorem dX0_drop_52 : decode cX0_drop 52 = .ok (.iastore, 1) := by decide +kernel
theorem dX0_drop_53 : decode cX0_drop 53 = .ok (.aload_n 0, 1) := by decide +kernel
theorem dX0_drop_54 : decode cX0_drop 54 = .ok (.getfield 13, 3) := by decide +kernel
theorem dX0_drop_57 : decode cX0_drop 57 = .ok (.iload_n 1, 1) := by decide +kernel
theorem dX0_drop_58 : decode cX0_drop 58 = .ok (.aload_n 0, 1) := by decide +kernel
theorem dX0_drop_59 : decode cX0_drop 59 = .ok (.getfield 13, 3) := by decide +kernel
theorem dX0_drop_62 : decode cX0_drop 62 = .ok (.iload_n 1, 1) := by decide +kernel
theorem dX0_drop_63 : decode cX0_drop 63 = .ok (.iaload, 1) := by decide +kernel
theorem dX0_drop_64 : decode cX0_drop 64 = .ok (.iconst 1, 1) := by decide +kernel
theorem dX0_drop_65 : decode cX0_drop 65 = .ok (.isub, 1) := by decide +kernel
theorem dX0_drop_66 : decode cX0_drop 66 = .ok (.iastore, 1) := by decide +kernel
theorem dX0_drop_67 : decode cX0_drop 67 = .ok (.aload_n 0, 1) := by decide +kernel
theorem dX0_drop_68 : decode cX0_drop 68 = .ok (.iconst 0, 1) := by decide +kernel
theorem dX0_drop_69 : decode cX0_drop 69 = .ok (.putfield 38, 3) := by decide +kernel
theorem dX0_drop_72 : decode cX0_drop 72 = .ok (.aload_n 0, 1) := by decide +kernel
theorem dX0_drop_73 : decode cX0_drop 73 = .ok (.getfield 13, 3) := by decide +kernel
theorem dX0_drop_76 : decode cX0_drop 76 = .ok (.iload_n 1, 1) := by decide +kernel
theorem dX0_drop_77 : decode cX0_drop 77 = .ok (.iaload, 1) := by decide +kernel
theorem dX0_drop_78 : decode cX0_drop 78 = .ok (.ireturn, 1) := by decide +kernel
theorem dX0_clear_0 : decode cX0_clear 0 = .ok (.iload_n 1, 1) := by decide +kernel
theorem dX0_clear_1 : decode cX0_clear 1 = .ok (.ifCond .lt 8, 3) := by decide +kernel
theorem dX0_clear_4 : decode cX0_clear 4 = .ok (.iload_n 1, 1) := by decide +kernel
theorem dX0_clear_5 : decode cX0_clear 5 = .ok (.iconst 4, 1) := by decide +kernel
theorem dX0_clear_6 : decode cX0_clear 6 = .ok (.if_icmp .lt 5, 3) := by decide +kernel
theorem dX0_clear_9 : decode cX0_clear 9 = .ok (.iconst (-1), 1) := by decide +kernel
theorem dX0_clear_10 : decode cX0_clear 10 = .ok (.ireturn, 1) := by decide +kernel
theorem dX0_clear_11 : decode cX0_clear 11 = .ok (.aload_n 0, 1) := by decide +kernel
theorem dX0_clear_12 : decode cX0_clear 12 = .ok (.getfield 13, 3) := by decide +kernel
theorem dX0_clear_15 : decode cX0_clear 15 = .ok (.iload_n 1, 1) := by decide +kernel
theorem dX0_clear_16 : decode cX0_clear 16 = .ok (.iaload, 1) := by decide +kernel
theorem dX0_clear_17 : decode cX0_clear 17 = .ok (.istore_n 2, 1) := by decide +kernel
theorem dX0_clear_18 : decode cX0_clear 18 = .ok (.iconst 0, 1) := by decide +kernel
theorem dX0_clear_19 : decode cX0_clear 19 = .ok (.istore_n 3, 1) := by decide +kernel
theorem dX0_clear_20 : decode cX0_clear 20 = .ok (.iload_n 3, 1) := by decide +kernel
theorem dX0_clear_21 : decode cX0_clear 21 = .ok (.bipush 8, 2) := by decide +kernel
theorem dX0_clear_23 : decode cX0_clear 23 = .ok (.if_icmp .ge 21, 3) := by decide +kernel
theorem dX0_clear_26 : decode cX0_clear 26 = .ok (.aload_n 0, 1) := by decide +kernel
theorem dX0_clear_27 : decode cX0_clear 27 = .ok (.getfield 7, 3) := by decide +kernel
theorem dX0_clear_30 : decode cX0_clear 30 = .ok (.iload_n 1, 1) := by decide +kernel
theorem dX0_clear_31 : decode cX0_clear 31 = .ok (.bipush 8, 2) := by decide +kernel
theorem dX0_clear_33 : decode cX0_clear 33 = .ok (.imul, 1) := by decide +kernel
theorem dX0_clear_34 : decode cX0_clear 34 = .ok (.iload_n 3, 1) := by decide +kernel
theorem dX0_clear_35 : decode cX0_clear 35 = .ok (.iadd, 1) := by decide +kernel
theorem dX0_clear_36 : decode cX0_clear 36 = .ok (.iconst 0, 1) := by decide +kernel
theorem dX0_clear_37 : decode cX0_clear 37 = .ok (.iastore, 1) := by decide +kernel
theorem dX0_clear_38 : decode cX0_clear 38 = .ok (.iinc 3 1, 3) := by decide +kernel
theorem dX0_clear_41 : decode cX0_clear 41 = .ok (.goto (-21), 3) := by decide +kernel
theorem dX0_clear_44 : decode cX0_clear 44 = .ok (.aload_n 0, 1) := by decide +kernel
theorem dX0_clear_45 : decode cX0_clear 45 = .ok (.getfield 13, 3) := by decide +kernel
theorem dX0_clear_48 : decode cX0_clear 48 = .ok (.iload_n 1, 1) := by decide +kernel
theorem dX0_clear_49 : decode cX0_clear 49 = .ok (.iconst 0, 1) := by decide +kernel
theorem dX0_clear_50 : decode cX0_clear 50 = .ok (.iastore, 1) := by decide +kernel
theorem dX0_clear_51 : decode cX0_clear 51 = .ok (.aload_n 0, 1) := by decide +kernel
theorem dX0_clear_52 : decode cX0_clear 52 = .ok (.iconst 0, 1) := by decide +kernel
theorem dX0_clear_53 : decode cX0_clear 53 = .ok (.putfield 38, 3) := by decide +kernel
theorem dX0_clear_56 : decode cX0_clear 56 = .ok (.iload_n 2, 1) := by decide +kernel
theorem dX0_clear_57 : decode cX0_clear 57 = .ok (.ireturn, 1) := by decide +kernel
theorem dX0_rows_0 : decode cX0_rows 0 = .ok (.iload_n 1, 1) := by decide +kernel
theorem dX0_rows_1 : decode cX0_rows 1 = .ok (.ifCond .lt 8, 3) := by decide +kernel
theorem dX0_rows_4 : decode cX0_rows 4 = .ok (.iload_n 1, 1) := by decide +kernel
theorem dX0_rows_5 : decode cX0_rows 5 = .ok (.iconst 4, 1) := by decide +kernel
theorem dX0_rows_6 : decode cX0_rows 6 = .ok (.if_icmp .lt 7, 3) := by decide +kernel
theorem dX0_rows_9 : decode cX0_rows 9 = .ok (.iconst (-1), 1) := by decide +kernel
theorem dX0_rows_10 : decode cX0_rows 10 = .ok (.goto 9, 3) := by decide +kernel
theorem dX0_rows_13 : decode cX0_rows 13 = .ok (.aload_n 0, 1) := by decide +kernel
theorem dX0_rows_14 : decode cX0_rows 14 = .ok (.getfield 13, 3) := by decide +kernel
theorem dX0_rows_17 : decode cX0_rows 17 = .ok (.iload_n 1, 1) := by decide +kernel
theorem dX0_rows_18 : decode cX0_rows 18 = .ok (.iaload, 1) := by decide +kernel
theorem dX0_rows_19 : decode cX0_rows 19 = .ok (.ireturn, 1) := by decide +kernel
theorem dX0_count_0 : decode cX0_count 0 = .ok (.aload_n 0, 1) := by decide +kernel
theorem dX0_count_1 : decode cX0_count 1 = .ok (.invokevirtual 46, 3) := by decide +kernel
theorem dX0_count_4 : decode cX0_count 4 = .ok (.iconst 0, 1) := by decide +kernel
theorem dX0_count_5 : decode cX0_count 5 = .ok (.istore_n 1, 1) := by decide +kernel
theorem dX0_count_6 : decode cX0_count 6 = .ok (.iconst 0, 1) := by decide +kernel
theorem dX0_count_7 : decode cX0_count 7 = .ok (.istore_n 2, 1) := by decide +kernel
theorem dX0_count_8 : decode cX0_count 8 = .ok (.iload_n 2, 1) := by decide +kernel
theorem dX0_count_9 : decode cX0_count 9 = .ok (.bipush 8, 2) := by decide +kernel
theorem dX0_count_11 : decode cX0_count 11 = .ok (.if_icmp .ge 24, 3) := by decide +kernel
theorem dX0_count_14 : decode cX0_count 14 = .ok (.iload_n 1, 1) := by decide +kernel
theorem dX0_count_15 : decode cX0_count 15 = .ok (.aload_n 0, 1) := by decide +kernel
theorem dX0_count_16 : decode cX0_count 16 = .ok (.getfield 25, 3) := by decide +kernel
theorem dX0_count_19 : decode cX0_count 19 = .ok (.iload_n 2, 1) := by decide +kernel
theorem dX0_count_20 : decode cX0_count 20 = .ok (.iaload, 1) := by decide +kernel
theorem dX0_count_21 : decode cX0_count 21 = .ok (.aload_n 0, 1) := by decide +kernel
theorem dX0_count_22 : decode cX0_count 22 = .ok (.iload_n 2, 1) := by decide +kernel
theorem dX0_count_23 : decode cX0_count 23 = .ok (.invokevirtual 49, 3) := by decide +kernel
theorem dX0_count_26 : decode cX0_count 26 = .ok (.imul, 1) := by decide +kernel
theorem dX0_count_27 : decode cX0_count 27 = .ok (.iadd, 1) := by decide +kernel
theorem dX0_count_28 : decode cX0_count 28 = .ok (.istore_n 1, 1) := by decide +kernel
theorem dX0_count_29 : decode cX0_count 29 = .ok (.iinc 2 1, 3) := by decide +kernel
theorem dX0_count_32 : decode cX0_count 32 = .ok (.goto (-24), 3) := by decide +kernel
theorem dX0_count_35 : decode cX0_count 35 = .ok (.iload_n 1, 1) := by decide +kernel
theorem dX0_count_36 : decode cX0_count 36 = .ok (.ireturn, 1) := by decide +kernel
theorem dX0_pass_0 : decode cX0_pass 0 = .ok (.aload_n 0, 1) := by decide +kernel
theorem dX0_pass_1 : decode cX0_pass 1 = .ok (.getfield 38, 3) := by decide +kernel
theorem dX0_pass_4 : decode cX0_pass 4 = .ok (.ifCond .eq 4, 3) := by decide +kernel
theorem dX0_pass_7 : decode cX0_pass 7 = .ok (.return_, 1) := by decide +kernel
theorem dX0_pass_8 : decode cX0_pass 8 = .ok (.iconst 0, 1) := by decide +kernel
theorem dX0_pass_9 : decode cX0_pass 9 = .ok (.istore_n 1, 1) := by decide +kernel
theorem dX0_pass_10 : decode cX0_pass 10 = .ok (.iload_n 1, 1) := by decide +kernel
theorem dX0_pass_11 : decode cX0_pass 11 = .ok (.bipush 8, 2) := by decide +kernel
theorem dX0_pass_13 : decode cX0_pass 13 = .ok (.if_icmp .ge 61, 3) := by decide +kernel
theorem dX0_pass_16 : decode cX0_pass 16 = .ok (.aload_n 0, 1) := by decide +kernel
theorem dX0_pass_17 : decode cX0_pass 17 = .ok (.getfield 16, 3) := by decide +kernel
theorem dX0_pass_20 : decode cX0_pass 20 = .ok (.iload_n 1, 1) := by decide +kernel
theorem dX0_pass_21 : decode cX0_pass 21 = .ok (.aload_n 0, 1) := by decide +kernel
theorem dX0_pass_22 : decode cX0_pass 22 = .ok (.aload_n 0, 1) := by decide +kernel
theorem dX0_pass_23 : decode cX0_pass 23 = .ok (.getfield 7, 3) := by decide +kernel
theorem dX0_pass_26 : decode cX0_pass 26 = .ok (.bipush 16, 2) := by decide +kernel
theorem dX0_pass_28 : decode cX0_pass 28 = .ok (.iload_n 1, 1) := by decide +kernel
theorem dX0_pass_29 : decode cX0_pass 29 = .ok (.iadd, 1) := by decide +kernel
theorem dX0_pass_30 : decode cX0_pass 30 = .ok (.iaload, 1) := by decide +kernel
theorem dX0_pass_31 : decode cX0_pass 31 = .ok (.invokevirtual 42, 3) := by decide +kernel
theorem dX0_pass_34 : decode cX0_pass 34 = .ok (.iastore, 1) := by decide +kernel
theorem dX0_pass_35 : decode cX0_pass 35 = .ok (.aload_n 0, 1) := by decide +kernel
theorem dX0_pass_36 : decode cX0_pass 36 = .ok (.getfield 19, 3) := by decide +kernel
theorem dX0_pass_39 : decode cX0_pass 39 = .ok (.iload_n 1, 1) := by decide +kernel
theorem dX0_pass_40 : decode cX0_pass 40 = .ok (.aload_n 0, 1) := by decide +kernel
theorem dX0_pass_41 : decode cX0_pass 41 = .ok (.aload_n 0, 1) := by decide +kernel
theorem dX0_pass_42 : decode cX0_pass 42 = .ok (.getfield 7, 3) := by decide +kernel
theorem dX0_pass_45 : decode cX0_pass 45 = .ok (.bipush 24, 2) := by decide +kernel
theorem dX0_pass_47 : decode cX0_pass 47 = .ok (.iload_n 1, 1) := by decide +kernel
theorem dX0_pass_48 : decode cX0_pass 48 = .ok (.iadd, 1) := by decide +kernel
theorem dX0_pass_49 : decode cX0_pass 49 = .ok (.iaload, 1) := by decide +kernel
theorem dX0_pass_50 : decode cX0_pass 50 = .ok (.invokevirtual 42, 3) := by decide +kernel
theorem dX0_pass_53 : decode cX0_pass 53 = .ok (.iastore, 1) := by decide +kernel
theorem dX0_pass_54 : decode cX0_pass 54 = .ok (.aload_n 0, 1) := by decide +kernel
theorem dX0_pass_55 : decode cX0_pass 55 = .ok (.getfield 25, 3) := by decide +kernel
theorem dX0_pass_58 : decode cX0_pass 58 = .ok (.iload_n 1, 1) := by decide +kernel
theorem dX0_pass_59 : decode cX0_pass 59 = .ok (.iconst 0, 1) := by decide +kernel
theorem dX0_pass_60 : decode cX0_pass 60 = .ok (.iastore, 1) := by decide +kernel
theorem dX0_pass_61 : decode cX0_pass 61 = .ok (.aload_n 0, 1) := by decide +kernel
theorem dX0_pass_62 : decode cX0_pass 62 = .ok (.getfield 28, 3) := by decide +kernel
end
end
section
section
set_option maxRecDepth 100000
theorem dX0_pass_65 : decode cX0_pass 65 = .ok (.iload_n 1, 1) := by decide +kernel
theorem dX0_pass_66 : decode cX0_pass 66 = .ok (.iconst 0, 1) := by decide +kernel
theorem dX0_pass_67 : decode cX0_pass 67 = .ok (.iastore, 1) := by decide +kernel
theorem dX0_pass_68 : decode cX0_pass 68 = .ok (.iinc 1 1, 3) := by decide +kernel
theorem dX0_pass_71 : decode cX0_pass 71 = .ok (.goto (-61), 3) := by decide +kernel
theorem dX0_pass_74 : decode cX0_pass 74 = .ok (.iconst 0, 1) := by decide +kernel
theorem dX0_pass_75 : decode cX0_pass 75 = .ok (.istore_n 1, 1) := by decide +kernel
theorem dX0_pass_76 : decode cX0_pass 76 = .ok (.iload_n 1, 1) := by decide +kernel
theorem dX0_pass_77 : decode cX0_pass 77 = .ok (.bipush 8, 2) := by decide +kernel
theorem dX0_pass_79 : decode cX0_pass 79 = .ok (.if_icmp .ge 83, 3) := by decide +kernel
theorem dX0_pass_82 : decode cX0_pass 82 = .ok (.aload_n 0, 1) := by decide +kernel
theorem dX0_pass_83 : decode cX0_pass 83 = .ok (.getfield 22, 3) := by decide +kernel
theorem dX0_pass_86 : decode cX0_pass 86 = .ok (.iload_n 1, 1) := by decide +kernel
theorem dX0_pass_87 : decode cX0_pass 87 = .ok (.iconst 0, 1) := by decide +kernel
theorem dX0_pass_88 : decode cX0_pass 88 = .ok (.iastore, 1) := by decide +kernel
theorem dX0_pass_89 : decode cX0_pass 89 = .ok (.iconst 0, 1) := by decide +kernel
theorem dX0_pass_90 : decode cX0_pass 90 = .ok (.istore_n 2, 1) := by decide +kernel
theorem dX0_pass_91 : decode cX0_pass 91 = .ok (.iload_n 2, 1) := by decide +kernel
theorem dX0_pass_92 : decode cX0_pass 92 = .ok (.bipush 8, 2) := by decide +kernel
theorem dX0_pass_94 : decode cX0_pass 94 = .ok (.if_icmp .ge 62, 3) := by decide +kernel
theorem dX0_pass_97 : decode cX0_pass 97 = .ok (.aload_n 0, 1) := by decide +kernel
theorem dX0_pass_98 : decode cX0_pass 98 = .ok (.iconst 1, 1) := by decide +kernel
theorem dX0_pass_99 : decode cX0_pass 99 = .ok (.iload_n 1, 1) := by decide +kernel
theorem dX0_pass_100 : decode cX0_pass 100 = .ok (.iload_n 2, 1) := by decide +kernel
theorem dX0_pass_101 : decode cX0_pass 101 = .ok (.invokevirtual 35, 3) := by decide +kernel
theorem dX0_pass_104 : decode cX0_pass 104 = .ok (.ifCond .eq 22, 3) := by decide +kernel
theorem dX0_pass_107 : decode cX0_pass 107 = .ok (.aload_n 0, 1) := by decide +kernel
theorem dX0_pass_108 : decode cX0_pass 108 = .ok (.getfield 22, 3) := by decide +kernel
theorem dX0_pass_111 : decode cX0_pass 111 = .ok (.iload_n 1, 1) := by decide +kernel
theorem dX0_pass_112 : decode cX0_pass 112 = .ok (.aload_n 0, 1) := by decide +kernel
theorem dX0_pass_113 : decode cX0_pass 113 = .ok (.getfield 22, 3) := by decide +kernel
theorem dX0_pass_116 : decode cX0_pass 116 = .ok (.iload_n 1, 1) := by decide +kernel
theorem dX0_pass_117 : decode cX0_pass 117 = .ok (.iaload, 1) := by decide +kernel
theorem dX0_pass_118 : decode cX0_pass 118 = .ok (.aload_n 0, 1) := by decide +kernel
theorem dX0_pass_119 : decode cX0_pass 119 = .ok (.getfield 16, 3) := by decide +kernel
theorem dX0_pass_122 : decode cX0_pass 122 = .ok (.iload_n 2, 1) := by decide +kernel
theorem dX0_pass_123 : decode cX0_pass 123 = .ok (.iaload, 1) := by decide +kernel
theorem dX0_pass_124 : decode cX0_pass 124 = .ok (.iadd, 1) := by decide +kernel
theorem dX0_pass_125 : decode cX0_pass 125 = .ok (.iastore, 1) := by decide +kernel
theorem dX0_pass_126 : decode cX0_pass 126 = .ok (.aload_n 0, 1) := by decide +kernel
theorem dX0_pass_127 : decode cX0_pass 127 = .ok (.iconst 0, 1) := by decide +kernel
theorem dX0_pass_128 : decode cX0_pass 128 = .ok (.iload_n 2, 1) := by decide +kernel
theorem dX0_pass_129 : decode cX0_pass 129 = .ok (.iload_n 1, 1) := by decide +kernel
theorem dX0_pass_130 : decode cX0_pass 130 = .ok (.invokevirtual 35, 3) := by decide +kernel
theorem dX0_pass_133 : decode cX0_pass 133 = .ok (.ifCond .eq 17, 3) := by decide +kernel
theorem dX0_pass_136 : decode cX0_pass 136 = .ok (.aload_n 0, 1) := by decide +kernel
theorem dX0_pass_137 : decode cX0_pass 137 = .ok (.getfield 25, 3) := by decide +kernel
theorem dX0_pass_140 : decode cX0_pass 140 = .ok (.iload_n 1, 1) := by decide +kernel
theorem dX0_pass_141 : decode cX0_pass 141 = .ok (.aload_n 0, 1) := by decide +kernel
theorem dX0_pass_142 : decode cX0_pass 142 = .ok (.getfield 25, 3) := by decide +kernel
theorem dX0_pass_145 : decode cX0_pass 145 = .ok (.iload_n 1, 1) := by decide +kernel
theorem dX0_pass_146 : decode cX0_pass 146 = .ok (.iaload, 1) := by decide +kernel
theorem dX0_pass_147 : decode cX0_pass 147 = .ok (.iconst 1, 1) := by decide +kernel
theorem dX0_pass_148 : decode cX0_pass 148 = .ok (.iadd, 1) := by decide +kernel
theorem dX0_pass_149 : decode cX0_pass 149 = .ok (.iastore, 1) := by decide +kernel
theorem dX0_pass_150 : decode cX0_pass 150 = .ok (.iinc 2 1, 3) := by decide +kernel
theorem dX0_pass_153 : decode cX0_pass 153 = .ok (.goto (-62), 3) := by decide +kernel
theorem dX0_pass_156 : decode cX0_pass 156 = .ok (.iinc 1 1, 3) := by decide +kernel
theorem dX0_pass_159 : decode cX0_pass 159 = .ok (.goto (-83), 3) := by decide +kernel
theorem dX0_pass_162 : decode cX0_pass 162 = .ok (.iconst 0, 1) := by decide +kernel
theorem dX0_pass_163 : decode cX0_pass 163 = .ok (.istore_n 1, 1) := by decide +kernel
theorem dX0_pass_164 : decode cX0_pass 164 = .ok (.iload_n 1, 1) := by decide +kernel
theorem dX0_pass_165 : decode cX0_pass 165 = .ok (.bipush 8, 2) := by decide +kernel
theorem dX0_pass_167 : decode cX0_pass 167 = .ok (.if_icmp .ge 59, 3) := by decide +kernel
theorem dX0_pass_170 : decode cX0_pass 170 = .ok (.iconst 0, 1) := by decide +kernel
theorem dX0_pass_171 : decode cX0_pass 171 = .ok (.istore_n 2, 1) := by decide +kernel
theorem dX0_pass_172 : decode cX0_pass 172 = .ok (.iload_n 2, 1) := by decide +kernel
theorem dX0_pass_173 : decode cX0_pass 173 = .ok (.bipush 8, 2) := by decide +kernel
theorem dX0_pass_175 : decode cX0_pass 175 = .ok (.if_icmp .ge 45, 3) := by decide +kernel
theorem dX0_pass_178 : decode cX0_pass 178 = .ok (.aload_n 0, 1) := by decide +kernel
theorem dX0_pass_179 : decode cX0_pass 179 = .ok (.iconst 1, 1) := by decide +kernel
theorem dX0_pass_180 : decode cX0_pass 180 = .ok (.iload_n 1, 1) := by decide +kernel
theorem dX0_pass_181 : decode cX0_pass 181 = .ok (.iload_n 2, 1) := by decide +kernel
theorem dX0_pass_182 : decode cX0_pass 182 = .ok (.invokevirtual 35, 3) := by decide +kernel
theorem dX0_pass_185 : decode cX0_pass 185 = .ok (.ifCond .eq 29, 3) := by decide +kernel
theorem dX0_pass_188 : decode cX0_pass 188 = .ok (.aload_n 0, 1) := by decide +kernel
theorem dX0_pass_189 : decode cX0_pass 189 = .ok (.getfield 28, 3) := by decide +kernel
theorem dX0_pass_192 : decode cX0_pass 192 = .ok (.iload_n 2, 1) := by decide +kernel
theorem dX0_pass_193 : decode cX0_pass 193 = .ok (.aload_n 0, 1) := by decide +kernel
theorem dX0_pass_194 : decode cX0_pass 194 = .ok (.getfield 28, 3) := by decide +kernel
theorem dX0_pass_197 : decode cX0_pass 197 = .ok (.iload_n 2, 1) := by decide +kernel
theorem dX0_pass_198 : decode cX0_pass 198 = .ok (.iaload, 1) := by decide +kernel
theorem dX0_pass_199 : decode cX0_pass 199 = .ok (.aload_n 0, 1) := by decide +kernel
theorem dX0_pass_200 : decode cX0_pass 200 = .ok (.getfield 25, 3) := by decide +kernel
theorem dX0_pass_203 : decode cX0_pass 203 = .ok (.iload_n 1, 1) := by decide +kernel
theorem dX0_pass_204 : decode cX0_pass 204 = .ok (.iaload, 1) := by decide +kernel
theorem dX0_pass_205 : decode cX0_pass 205 = .ok (.aload_n 0, 1) := by decide +kernel
theorem dX0_pass_206 : decode cX0_pass 206 = .ok (.getfield 19, 3) := by decide +kernel
theorem dX0_pass_209 : decode cX0_pass 209 = .ok (.iload_n 1, 1) := by decide +kernel
theorem dX0_pass_210 : decode cX0_pass 210 = .ok (.iaload, 1) := by decide +kernel
theorem dX0_pass_211 : decode cX0_pass 211 = .ok (.imul, 1) := by decide +kernel
theorem dX0_pass_212 : decode cX0_pass 212 = .ok (.iadd, 1) := by decide +kernel
theorem dX0_pass_213 : decode cX0_pass 213 = .ok (.iastore, 1) := by decide +kernel
theorem dX0_pass_214 : decode cX0_pass 214 = .ok (.iinc 2 1, 3) := by decide +kernel
theorem dX0_pass_217 : decode cX0_pass 217 = .ok (.goto (-45), 3) := by decide +kernel
theorem dX0_pass_220 : decode cX0_pass 220 = .ok (.iinc 1 1, 3) := by decide +kernel
theorem dX0_pass_223 : decode cX0_pass 223 = .ok (.goto (-59), 3) := by decide +kernel
theorem dX0_pass_226 : decode cX0_pass 226 = .ok (.aload_n 0, 1) := by decide +kernel
theorem dX0_pass_227 : decode cX0_pass 227 = .ok (.iconst 1, 1) := by decide +kernel
theorem dX0_pass_228 : decode cX0_pass 228 = .ok (.putfield 38, 3) := by decide +kernel
theorem dX0_pass_231 : decode cX0_pass 231 = .ok (.return_, 1) := by decide +kernel
theorem dX0_sizeOf_0 : decode cX0_sizeOf 0 = .ok (.iconst 0, 1) := by decide +kernel
theorem dX0_sizeOf_1 : decode cX0_sizeOf 1 = .ok (.istore_n 2, 1) := by decide +kernel
theorem dX0_sizeOf_2 : decode cX0_sizeOf 2 = .ok (.iconst 0, 1) := by decide +kernel
theorem dX0_sizeOf_3 : decode cX0_sizeOf 3 = .ok (.istore_n 3, 1) := by decide +kernel
theorem dX0_sizeOf_4 : decode cX0_sizeOf 4 = .ok (.iload_n 3, 1) := by decide +kernel
theorem dX0_sizeOf_5 : decode cX0_sizeOf 5 = .ok (.bipush 8, 2) := by decide +kernel
theorem dX0_sizeOf_7 : decode cX0_sizeOf 7 = .ok (.if_icmp .ge 17, 3) := by decide +kernel
theorem dX0_sizeOf_10 : decode cX0_sizeOf 10 = .ok (.iload_n 2, 1) := by decide +kernel
theorem dX0_sizeOf_11 : decode cX0_sizeOf 11 = .ok (.iload_n 1, 1) := by decide +kernel
theorem dX0_sizeOf_12 : decode cX0_sizeOf 12 = .ok (.iload_n 3, 1) := by decide +kernel
theorem dX0_sizeOf_13 : decode cX0_sizeOf 13 = .ok (.ishr, 1) := by decide +kernel
theorem dX0_sizeOf_14 : decode cX0_sizeOf 14 = .ok (.iconst 1, 1) := by decide +kernel
theorem dX0_sizeOf_15 : decode cX0_sizeOf 15 = .ok (.iand, 1) := by decide +kernel
theorem dX0_sizeOf_16 : decode cX0_sizeOf 16 = .ok (.iadd, 1) := by decide +kernel
theorem dX0_sizeOf_17 : decode cX0_sizeOf 17 = .ok (.istore_n 2, 1) := by decide +kernel
theorem dX0_sizeOf_18 : decode cX0_sizeOf 18 = .ok (.iinc 3 1, 3) := by decide +kernel
theorem dX0_sizeOf_21 : decode cX0_sizeOf 21 = .ok (.goto (-17), 3) := by decide +kernel
theorem dX0_sizeOf_24 : decode cX0_sizeOf 24 = .ok (.iload_n 2, 1) := by decide +kernel
theorem dX0_sizeOf_25 : decode cX0_sizeOf 25 = .ok (.ireturn, 1) := by decide +kernel
theorem dX0_behind_0 : decode cX0_behind 0 = .ok (.aload_n 0, 1) := by decide +kernel
theorem dX0_behind_1 : decode cX0_behind 1 = .ok (.getfield 22, 3) := by decide +kernel
theorem dX0_behind_4 : decode cX0_behind 4 = .ok (.iload_n 1, 1) := by decide +kernel
theorem dX0_behind_5 : decode cX0_behind 5 = .ok (.iaload, 1) := by decide +kernel
theorem dX0_behind_6 : decode cX0_behind 6 = .ok (.aload_n 0, 1) := by decide +kernel
theorem dX0_behind_7 : decode cX0_behind 7 = .ok (.getfield 19, 3) := by decide +kernel
theorem dX0_behind_10 : decode cX0_behind 10 = .ok (.iload_n 1, 1) := by decide +kernel
theorem dX0_behind_11 : decode cX0_behind 11 = .ok (.iaload, 1) := by decide +kernel
theorem dX0_behind_12 : decode cX0_behind 12 = .ok (.imul, 1) := by decide +kernel
theorem dX0_behind_13 : decode cX0_behind 13 = .ok (.ireturn, 1) := by decide +kernel
theorem dX0_answer_0 : decode cX0_answer 0 = .ok (.aload_n 0, 1) := by decide +kernel
theorem dX0_answer_1 : decode cX0_answer 1 = .ok (.invokevirtual 56, 3) := by decide +kernel
theorem dX0_answer_4 : decode cX0_answer 4 = .ok (.istore_n 2, 1) := by decide +kernel
theorem dX0_answer_5 : decode cX0_answer 5 = .ok (.iload_n 1, 1) := by decide +kernel
theorem dX0_answer_6 : decode cX0_answer 6 = .ok (.ifCond .lt 8, 3) := by decide +kernel
theorem dX0_answer_9 : decode cX0_answer 9 = .ok (.iload_n 1, 1) := by decide +kernel
theorem dX0_answer_10 : decode cX0_answer 10 = .ok (.iload_n 2, 1) := by decide +kernel
theorem dX0_answer_11 : decode cX0_answer 11 = .ok (.if_icmp .lt 6, 3) := by decide +kernel
theorem dX0_answer_14 : decode cX0_answer 14 = .ok (.bipush (-4), 2) := by decide +kernel
theorem dX0_answer_16 : decode cX0_answer 16 = .ok (.ireturn, 1) := by decide +kernel
theorem dX0_answer_17 : decode cX0_answer 17 = .ok (.aload_n 0, 1) := by decide +kernel
theorem dX0_answer_18 : decode cX0_answer 18 = .ok (.iload_n 1, 1) := by decide +kernel
theorem dX0_answer_19 : decode cX0_answer 19 = .ok (.putfield 52, 3) := by decide +kernel
theorem dX0_answer_22 : decode cX0_answer 22 = .ok (.iconst 0, 1) := by decide +kernel
theorem dX0_answer_23 : decode cX0_answer 23 = .ok (.istore_n 3, 1) := by decide +kernel
theorem dX0_answer_24 : decode cX0_answer 24 = .ok (.bipush (-4), 2) := by decide +kernel
theorem dX0_answer_26 : decode cX0_answer 26 = .ok (.istore 4, 2) := by decide +kernel
theorem dX0_answer_28 : decode cX0_answer 28 = .ok (.iconst 0, 1) := by decide +kernel
theorem dX0_answer_29 : decode cX0_answer 29 = .ok (.istore 5, 2) := by decide +kernel
theorem dX0_answer_31 : decode cX0_answer 31 = .ok (.iload 5, 2) := by decide +kernel
theorem dX0_answer_33 : decode cX0_answer 33 = .ok (.bipush 8, 2) := by decide +kernel
theorem dX0_answer_35 : decode cX0_answer 35 = .ok (.if_icmp .ge 28, 3) := by decide +kernel
theorem dX0_answer_38 : decode cX0_answer 38 = .ok (.iload 4, 2) := by decide +kernel
theorem dX0_answer_40 : decode cX0_answer 40 = .ok (.ifCond .ge 23, 3) := by decide +kernel
theorem dX0_answer_43 : decode cX0_answer 43 = .ok (.aload_n 0, 1) := by decide +kernel
theorem dX0_answer_44 : decode cX0_answer 44 = .ok (.iconst 0, 1) := by decide +kernel
theorem dX0_answer_45 : decode cX0_answer 45 = .ok (.iload 5, 2) := by decide +kernel
theorem dX0_answer_47 : decode cX0_answer 47 = .ok (.iconst 1, 1) := by decide +kernel
theorem dX0_answer_48 : decode cX0_answer 48 = .ok (.iconst 0, 1) := by decide +kernel
theorem dX0_answer_49 : decode cX0_answer 49 = .ok (.invokevirtual 60, 3) := by decide +kernel
theorem dX0_answer_52 : decode cX0_answer 52 = .ok (.istore 4, 2) := by decide +kernel
theorem dX0_answer_54 : decode cX0_answer 54 = .ok (.iload 5, 2) := by decide +kernel
theorem dX0_answer_56 : decode cX0_answer 56 = .ok (.istore_n 3, 1) := by decide +kernel
theorem dX0_answer_57 : decode cX0_answer 57 = .ok (.iinc 5 1, 3) := by decide +kernel
theorem dX0_answer_60 : decode cX0_answer 60 = .ok (.goto (-29), 3) := by decide +kernel
theorem dX0_answer_63 : decode cX0_answer 63 = .ok (.aload_n 0, 1) := by decide +kernel
theorem dX0_answer_64 : decode cX0_answer 64 = .ok (.iconst 1, 1) := by decide +kernel
theorem dX0_answer_65 : decode cX0_answer 65 = .ok (.iload 4, 2) := by decide +kernel
theorem dX0_answer_67 : decode cX0_answer 67 = .ok (.aload_n 0, 1) := by decide +kernel
theorem dX0_answer_68 : decode cX0_answer 68 = .ok (.getfield 19, 3) := by decide +kernel
theorem dX0_answer_71 : decode cX0_answer 71 = .ok (.iload 4, 2) := by decide +kernel
theorem dX0_answer_73 : decode cX0_answer 73 = .ok (.iaload, 1) := by decide +kernel
theorem dX0_answer_74 : decode cX0_answer 74 = .ok (.iconst 1, 1) := by decide +kernel
theorem dX0_answer_75 : decode cX0_answer 75 = .ok (.invokevirtual 60, 3) := by decide +kernel
theorem dX0_answer_78 : decode cX0_answer 78 = .ok (.istore 5, 2) := by decide +kernel
theorem dX0_answer_80 : decode cX0_answer 80 = .ok (.aload_n 0, 1) := by decide +kernel
theorem dX0_answer_81 : decode cX0_answer 81 = .ok (.iconst 2, 1) := by decide +kernel
theorem dX0_answer_82 : decode cX0_answer 82 = .ok (.iload 5, 2) := by decide +kernel
theorem dX0_answer_84 : decode cX0_answer 84 = .ok (.aload_n 0, 1) := by decide +kernel
theorem dX0_answer_85 : decode cX0_answer 85 = .ok (.getfield 19, 3) := by decide +kernel
theorem dX0_answer_88 : decode cX0_answer 88 = .ok (.iload 4, 2) := by decide +kernel
theorem dX0_answer_90 : decode cX0_answer 90 = .ok (.iaload, 1) := by decide +kernel
theorem dX0_answer_91 : decode cX0_answer 91 = .ok (.iconst 2, 1) := by decide +kernel
theorem dX0_answer_92 : decode cX0_answer 92 = .ok (.invokevirtual 60, 3) := by decide +kernel
theorem dX0_answer_95 : decode cX0_answer 95 = .ok (.istore 6, 2) := by decide +kernel
theorem dX0_answer_97 : decode cX0_answer 97 = .ok (.aload_n 0, 1) := by decide +kernel
theorem dX0_answer_98 : decode cX0_answer 98 = .ok (.iconst 3, 1) := by decide +kernel
theorem dX0_answer_99 : decode cX0_answer 99 = .ok (.iload 4, 2) := by decide +kernel
theorem dX0_answer_101 : decode cX0_answer 101 = .ok (.iconst 1, 1) := by decide +kernel
theorem dX0_answer_102 : decode cX0_answer 102 = .ok (.iconst 2, 1) := by decide +kernel
theorem dX0_answer_103 : decode cX0_answer 103 = .ok (.invokevirtual 60, 3) := by decide +kernel
theorem dX0_answer_106 : decode cX0_answer 106 = .ok (.istore 7, 2) := by decide +kernel
theorem dX0_answer_108 : decode cX0_answer 108 = .ok (.iload_n 3, 1) := by decide +kernel
theorem dX0_answer_109 : decode cX0_answer 109 = .ok (.bipush 8, 2) := by decide +kernel
theorem dX0_answer_111 : decode cX0_answer 111 = .ok (.iload 4, 2) := by decide +kernel
theorem dX0_answer_113 : decode cX0_answer 113 = .ok (.imul, 1) := by decide +kernel
theorem dX0_answer_114 : decode cX0_answer 114 = .ok (.iadd, 1) := by decide +kernel
theorem dX0_answer_115 : decode cX0_answer 115 = .ok (.bipush 64, 2) := by decide +kernel
theorem dX0_answer_117 : decode cX0_answer 117 = .ok (.iload 5, 2) := by decide +kernel
theorem dX0_answer_119 : decode cX0_answer 119 = .ok (.imul, 1) := by decide +kernel
theorem dX0_answer_120 : decode cX0_answer 120 = .ok (.iadd, 1) := by decide +kernel
theorem dX0_answer_121 : decode cX0_answer 121 = .ok (.sipush 512, 3) := by decide +kernel
theorem dX0_answer_124 : decode cX0_answer 124 = .ok (.iload 6, 2) := by decide +kernel
theorem dX0_answer_126 : decode cX0_answer 126 = .ok (.imul, 1) := by decide +kernel
theorem dX0_answer_127 : decode cX0_answer 127 = .ok (.iadd, 1) := by decide +kernel
theorem dX0_answer_128 : decode cX0_answer 128 = .ok (.sipush 4096, 3) := by decide +kernel
theorem dX0_answer_131 : decode cX0_answer 131 = .ok (.iload 7, 2) := by decide +kernel
theorem dX0_answer_133 : decode cX0_answer 133 = .ok (.imul, 1) := by decide +kernel
theorem dX0_answer_134 : decode cX0_answer 134 = .ok (.iadd, 1) := by decide +kernel
theorem dX0_answer_135 : decode cX0_answer 135 = .ok (.ireturn, 1) := by decide +kernel
theorem dX0_walk_0 : decode cX0_walk 0 = .ok (.iconst 0, 1) := by decide +kernel
theorem dX0_walk_1 : decode cX0_walk 1 = .ok (.istore 5, 2) := by decide +kernel
theorem dX0_walk_3 : decode cX0_walk 3 = .ok (.iload 5, 2) := by decide +kernel
theorem dX0_walk_5 : decode cX0_walk 5 = .ok (.bipush 8, 2) := by decide +kernel
theorem dX0_walk_7 : decode cX0_walk 7 = .ok (.if_icmp .ge 78, 3) := by decide +kernel
theorem dX0_walk_10 : decode cX0_walk 10 = .ok (.aload_n 0, 1) := by decide +kernel
theorem dX0_walk_11 : decode cX0_walk 11 = .ok (.iload_n 1, 1) := by decide +kernel
theorem dX0_walk_12 : decode cX0_walk 12 = .ok (.iload_n 2, 1) := by decide +kernel
theorem dX0_walk_13 : decode cX0_walk 13 = .ok (.iload 5, 2) := by decide +kernel
theorem dX0_walk_15 : decode cX0_walk 15 = .ok (.invokevirtual 35, 3) := by decide +kernel
theorem dX0_walk_18 : decode cX0_walk 18 = .ok (.ifCond .eq 61, 3) := by decide +kernel
theorem dX0_walk_21 : decode cX0_walk 21 = .ok (.iload_n 3, 1) := by decide +kernel
theorem dX0_walk_22 : decode cX0_walk 22 = .ok (.iload 4, 2) := by decide +kernel
theorem dX0_walk_24 : decode cX0_walk 24 = .ok (.ifCond .ne 12, 3) := by decide +kernel
theorem dX0_walk_27 : decode cX0_walk 27 = .ok (.aload_n 0, 1) := by decide +kernel
theorem dX0_walk_28 : decode cX0_walk 28 = .ok (.iload 5, 2) := by decide +kernel
theorem dX0_walk_30 : decode cX0_walk 30 = .ok (.invokevirtual 49, 3) := by decide +kernel
theorem dX0_walk_33 : decode cX0_walk 33 = .ok (.goto 20, 3) := by decide +kernel
theorem dX0_walk_36 : decode cX0_walk 36 = .ok (.iload 4, 2) := by decide +kernel
theorem dX0_walk_38 : decode cX0_walk 38 = .ok (.iconst 1, 1) := by decide +kernel
theorem dX0_walk_39 : decode cX0_walk 39 = .ok (.if_icmp .ne 13, 3) := by decide +kernel
theorem dX0_walk_42 : decode cX0_walk 42 = .ok (.aload_n 0, 1) := by decide +kernel
theorem dX0_walk_43 : decode cX0_walk 43 = .ok (.getfield 16, 3) := by decide +kernel
theorem dX0_walk_46 : decode cX0_walk 46 = .ok (.iload 5, 2) := by decide +kernel
theorem dX0_walk_48 : decode cX0_walk 48 = .ok (.iaload, 1) := by decide +kernel
theorem dX0_walk_49 : decode cX0_walk 49 = .ok (.goto 4, 3) := by decide +kernel
theorem dX0_walk_52 : decode cX0_walk 52 = .ok (.iconst 1, 1) := by decide +kernel
theorem dX0_walk_53 : decode cX0_walk 53 = .ok (.imul, 1) := by decide +kernel
theorem dX0_walk_54 : decode cX0_walk 54 = .ok (.istore 6, 2) := by decide +kernel
theorem dX0_walk_56 : decode cX0_walk 56 = .ok (.aload_n 0, 1) := by decide +kernel
theorem dX0_walk_57 : decode cX0_walk 57 = .ok (.getfield 52, 3) := by decide +kernel
theorem dX0_walk_60 : decode cX0_walk 60 = .ok (.iload 6, 2) := by decide +kernel
theorem dX0_walk_62 : decode cX0_walk 62 = .ok (.if_icmp .ge 6, 3) := by decide +kernel
theorem dX0_walk_65 : decode cX0_walk 65 = .ok (.iload 5, 2) := by decide +kernel
theorem dX0_walk_67 : decode cX0_walk 67 = .ok (.ireturn, 1) := by decide +kernel
theorem dX0_walk_68 : decode cX0_walk 68 = .ok (.aload_n 0, 1) := by decide +kernel
theorem dX0_walk_69 : decode cX0_walk 69 = .ok (.aload_n 0, 1) := by decide +kernel
theorem dX0_walk_70 : decode cX0_walk 70 = .ok (.getfield 52, 3) := by decide +kernel
theorem dX0_walk_73 : decode cX0_walk 73 = .ok (.iload 6, 2) := by decide +kernel
theorem dX0_walk_75 : decode cX0_walk 75 = .ok (.isub, 1) := by decide +kernel
theorem dX0_walk_76 : decode cX0_walk 76 = .ok (.putfield 52, 3) := by decide +kernel
theorem dX0_walk_79 : decode cX0_walk 79 = .ok (.iinc 5 1, 3) := by decide +kernel
theorem dX0_walk_82 : decode cX0_walk 82 = .ok (.goto (-79), 3) := by decide +kernel
theorem dX0_walk_85 : decode cX0_walk 85 = .ok (.bipush (-4), 2) := by decide +kernel
theorem dX0_walk_87 : decode cX0_walk 87 = .ok (.ireturn, 1) := by decide +kernel
theorem dX0_has_0 : decode cX0_has 0 = .ok (.aload_n 0, 1) := by decide +kernel
theorem dX0_has_1 : decode cX0_has 1 = .ok (.iload_n 1, 1) := by decide +kernel
theorem dX0_has_2 : decode cX0_has 2 = .ok (.invokevirtual 64, 3) := by decide +kernel
theorem dX0_has_5 : decode cX0_has 5 = .ok (.ifCond .eq 5, 3) := by decide +kernel
theorem dX0_has_8 : decode cX0_has 8 = .ok (.iconst 0, 1) := by decide +kernel
theorem dX0_has_9 : decode cX0_has 9 = .ok (.ireturn, 1) := by decide +kernel
theorem dX0_has_10 : decode cX0_has 10 = .ok (.iload_n 1, 1) := by decide +kernel
theorem dX0_has_11 : decode cX0_has 11 = .ok (.bipush 7, 2) := by decide +kernel
theorem dX0_has_13 : decode cX0_has 13 = .ok (.iand, 1) := by decide +kernel
theorem dX0_has_14 : decode cX0_has 14 = .ok (.istore_n 2, 1) := by decide +kernel
theorem dX0_has_15 : decode cX0_has 15 = .ok (.iload_n 1, 1) := by decide +kernel
theorem dX0_has_16 : decode cX0_has 16 = .ok (.iconst 3, 1) := by decide +kernel
theorem dX0_has_17 : decode cX0_has 17 = .ok (.ishr, 1) := by decide +kernel
theorem dX0_has_18 : decode cX0_has 18 = .ok (.bipush 7, 2) := by decide +kernel
theorem dX0_has_20 : decode cX0_has 20 = .ok (.iand, 1) := by decide +kernel
theorem dX0_has_21 : decode cX0_has 21 = .ok (.istore_n 3, 1) := by decide +kernel
theorem dX0_has_22 : decode cX0_has 22 = .ok (.iload_n 1, 1) := by decide +kernel
theorem dX0_has_23 : decode cX0_has 23 = .ok (.bipush 6, 2) := by decide +kernel
theorem dX0_has_25 : decode cX0_has 25 = .ok (.ishr, 1) := by decide +kernel
theorem dX0_has_26 : decode cX0_has 26 = .ok (.bipush 7, 2) := by decide +kernel
theorem dX0_has_28 : decode cX0_has 28 = .ok (.iand, 1) := by decide +kernel
theorem dX0_has_29 : decode cX0_has 29 = .ok (.istore 4, 2) := by decide +kernel
theorem dX0_has_31 : decode cX0_has 31 = .ok (.iload_n 1, 1) := by decide +kernel
theorem dX0_has_32 : decode cX0_has 32 = .ok (.bipush 9, 2) := by decide +kernel
theorem dX0_has_34 : decode cX0_has 34 = .ok (.ishr, 1) := by decide +kernel
theorem dX0_has_35 : decode cX0_has 35 = .ok (.bipush 7, 2) := by decide +kernel
theorem dX0_has_37 : decode cX0_has 37 = .ok (.iand, 1) := by decide +kernel
theorem dX0_has_38 : decode cX0_has 38 = .ok (.istore 5, 2) := by decide +kernel
theorem dX0_has_40 : decode cX0_has 40 = .ok (.iload_n 1, 1) := by decide +kernel
theorem dX0_has_41 : decode cX0_has 41 = .ok (.bipush 12, 2) := by decide +kernel
theorem dX0_has_43 : decode cX0_has 43 = .ok (.ishr, 1) := by decide +kernel
theorem dX0_has_44 : decode cX0_has 44 = .ok (.istore 6, 2) := by decide +kernel
theorem dX0_has_46 : decode cX0_has 46 = .ok (.aload_n 0, 1) := by decide +kernel
theorem dX0_has_47 : decode cX0_has 47 = .ok (.iconst 0, 1) := by decide +kernel
theorem dX0_has_48 : decode cX0_has 48 = .ok (.iload_n 2, 1) := by decide +kernel
theorem dX0_has_49 : decode cX0_has 49 = .ok (.iload_n 3, 1) := by decide +kernel
theorem dX0_has_50 : decode cX0_has 50 = .ok (.invokevirtual 35, 3) := by decide +kernel
theorem dX0_has_53 : decode cX0_has 53 = .ok (.ifCond .eq 41, 3) := by decide +kernel
theorem dX0_has_56 : decode cX0_has 56 = .ok (.aload_n 0, 1) := by decide +kernel
theorem dX0_has_57 : decode cX0_has 57 = .ok (.iconst 1, 1) := by decide +kernel
theorem dX0_has_58 : decode cX0_has 58 = .ok (.iload_n 3, 1) := by decide +kernel
theorem dX0_has_59 : decode cX0_has 59 = .ok (.iload 4, 2) := by decide +kernel
theorem dX0_has_61 : decode cX0_has 61 = .ok (.invokevirtual 35, 3) := by decide +kernel
theorem dX0_has_64 : decode cX0_has 64 = .ok (.ifCond .eq 30, 3) := by decide +kernel
theorem dX0_has_67 : decode cX0_has 67 = .ok (.aload_n 0, 1) := by decide +kernel
end
end
section
section
set_option maxRecDepth 100000
theorem dX0_has_68 : decode cX0_has 68 = .ok (.iconst 2, 1) := by decide +kernel
theorem dX0_has_69 : decode cX0_has 69 = .ok (.iload 4, 2) := by decide +kernel
theorem dX0_has_71 : decode cX0_has 71 = .ok (.iload 5, 2) := by decide +kernel
theorem dX0_has_73 : decode cX0_has 73 = .ok (.invokevirtual 35, 3) := by decide +kernel
theorem dX0_has_76 : decode cX0_has 76 = .ok (.ifCond .eq 18, 3) := by decide +kernel
theorem dX0_has_79 : decode cX0_has 79 = .ok (.aload_n 0, 1) := by decide +kernel
theorem dX0_has_80 : decode cX0_has 80 = .ok (.iconst 3, 1) := by decide +kernel
theorem dX0_has_81 : decode cX0_has 81 = .ok (.iload_n 3, 1) := by decide +kernel
theorem dX0_has_82 : decode cX0_has 82 = .ok (.iload 6, 2) := by decide +kernel
theorem dX0_has_84 : decode cX0_has 84 = .ok (.invokevirtual 35, 3) := by decide +kernel
theorem dX0_has_87 : decode cX0_has 87 = .ok (.ifCond .eq 7, 3) := by decide +kernel
theorem dX0_has_90 : decode cX0_has 90 = .ok (.iconst 1, 1) := by decide +kernel
theorem dX0_has_91 : decode cX0_has 91 = .ok (.goto 4, 3) := by decide +kernel
theorem dX0_has_94 : decode cX0_has 94 = .ok (.iconst 0, 1) := by decide +kernel
theorem dX0_has_95 : decode cX0_has 95 = .ok (.ireturn, 1) := by decide +kernel
theorem dX0_badCode_0 : decode cX0_badCode 0 = .ok (.iload_n 1, 1) := by decide +kernel
theorem dX0_badCode_1 : decode cX0_badCode 1 = .ok (.ifCond .lt 10, 3) := by decide +kernel
theorem dX0_badCode_4 : decode cX0_badCode 4 = .ok (.iload_n 1, 1) := by decide +kernel
theorem dX0_badCode_5 : decode cX0_badCode 5 = .ok (.sipush 32767, 3) := by decide +kernel
theorem dX0_badCode_8 : decode cX0_badCode 8 = .ok (.if_icmp .le 7, 3) := by decide +kernel
theorem dX0_badCode_11 : decode cX0_badCode 11 = .ok (.iconst 1, 1) := by decide +kernel
theorem dX0_badCode_12 : decode cX0_badCode 12 = .ok (.goto 4, 3) := by decide +kernel
theorem dX0_badCode_15 : decode cX0_badCode 15 = .ok (.iconst 0, 1) := by decide +kernel
theorem dX0_badCode_16 : decode cX0_badCode 16 = .ok (.ireturn, 1) := by decide +kernel
theorem dX0_rank_0 : decode cX0_rank 0 = .ok (.aload_n 0, 1) := by decide +kernel
theorem dX0_rank_1 : decode cX0_rank 1 = .ok (.iload_n 1, 1) := by decide +kernel
theorem dX0_rank_2 : decode cX0_rank 2 = .ok (.invokevirtual 64, 3) := by decide +kernel
theorem dX0_rank_5 : decode cX0_rank 5 = .ok (.ifCond .eq 5, 3) := by decide +kernel
theorem dX0_rank_8 : decode cX0_rank 8 = .ok (.iconst (-1), 1) := by decide +kernel
theorem dX0_rank_9 : decode cX0_rank 9 = .ok (.ireturn, 1) := by decide +kernel
theorem dX0_rank_10 : decode cX0_rank 10 = .ok (.aload_n 0, 1) := by decide +kernel
theorem dX0_rank_11 : decode cX0_rank 11 = .ok (.invokevirtual 46, 3) := by decide +kernel
theorem dX0_rank_14 : decode cX0_rank 14 = .ok (.iload_n 1, 1) := by decide +kernel
theorem dX0_rank_15 : decode cX0_rank 15 = .ok (.bipush 7, 2) := by decide +kernel
theorem dX0_rank_17 : decode cX0_rank 17 = .ok (.iand, 1) := by decide +kernel
theorem dX0_rank_18 : decode cX0_rank 18 = .ok (.istore_n 2, 1) := by decide +kernel
theorem dX0_rank_19 : decode cX0_rank 19 = .ok (.iload_n 1, 1) := by decide +kernel
theorem dX0_rank_20 : decode cX0_rank 20 = .ok (.iconst 3, 1) := by decide +kernel
theorem dX0_rank_21 : decode cX0_rank 21 = .ok (.ishr, 1) := by decide +kernel
theorem dX0_rank_22 : decode cX0_rank 22 = .ok (.bipush 7, 2) := by decide +kernel
theorem dX0_rank_24 : decode cX0_rank 24 = .ok (.iand, 1) := by decide +kernel
theorem dX0_rank_25 : decode cX0_rank 25 = .ok (.istore_n 3, 1) := by decide +kernel
theorem dX0_rank_26 : decode cX0_rank 26 = .ok (.iload_n 1, 1) := by decide +kernel
theorem dX0_rank_27 : decode cX0_rank 27 = .ok (.bipush 6, 2) := by decide +kernel
theorem dX0_rank_29 : decode cX0_rank 29 = .ok (.ishr, 1) := by decide +kernel
theorem dX0_rank_30 : decode cX0_rank 30 = .ok (.bipush 7, 2) := by decide +kernel
theorem dX0_rank_32 : decode cX0_rank 32 = .ok (.iand, 1) := by decide +kernel
theorem dX0_rank_33 : decode cX0_rank 33 = .ok (.istore 4, 2) := by decide +kernel
theorem dX0_rank_35 : decode cX0_rank 35 = .ok (.iload_n 1, 1) := by decide +kernel
theorem dX0_rank_36 : decode cX0_rank 36 = .ok (.bipush 9, 2) := by decide +kernel
theorem dX0_rank_38 : decode cX0_rank 38 = .ok (.ishr, 1) := by decide +kernel
theorem dX0_rank_39 : decode cX0_rank 39 = .ok (.bipush 7, 2) := by decide +kernel
theorem dX0_rank_41 : decode cX0_rank 41 = .ok (.iand, 1) := by decide +kernel
theorem dX0_rank_42 : decode cX0_rank 42 = .ok (.istore 5, 2) := by decide +kernel
theorem dX0_rank_44 : decode cX0_rank 44 = .ok (.iload_n 1, 1) := by decide +kernel
theorem dX0_rank_45 : decode cX0_rank 45 = .ok (.bipush 12, 2) := by decide +kernel
theorem dX0_rank_47 : decode cX0_rank 47 = .ok (.ishr, 1) := by decide +kernel
theorem dX0_rank_48 : decode cX0_rank 48 = .ok (.istore 6, 2) := by decide +kernel
theorem dX0_rank_50 : decode cX0_rank 50 = .ok (.iconst 0, 1) := by decide +kernel
theorem dX0_rank_51 : decode cX0_rank 51 = .ok (.istore 7, 2) := by decide +kernel
theorem dX0_rank_53 : decode cX0_rank 53 = .ok (.iconst 0, 1) := by decide +kernel
theorem dX0_rank_54 : decode cX0_rank 54 = .ok (.istore 8, 2) := by decide +kernel
theorem dX0_rank_56 : decode cX0_rank 56 = .ok (.iload 8, 2) := by decide +kernel
theorem dX0_rank_58 : decode cX0_rank 58 = .ok (.iload_n 2, 1) := by decide +kernel
theorem dX0_rank_59 : decode cX0_rank 59 = .ok (.if_icmp .ge 29, 3) := by decide +kernel
theorem dX0_rank_62 : decode cX0_rank 62 = .ok (.aload_n 0, 1) := by decide +kernel
theorem dX0_rank_63 : decode cX0_rank 63 = .ok (.iconst 0, 1) := by decide +kernel
theorem dX0_rank_64 : decode cX0_rank 64 = .ok (.iload 8, 2) := by decide +kernel
theorem dX0_rank_66 : decode cX0_rank 66 = .ok (.bipush 8, 2) := by decide +kernel
theorem dX0_rank_68 : decode cX0_rank 68 = .ok (.iconst 1, 1) := by decide +kernel
theorem dX0_rank_69 : decode cX0_rank 69 = .ok (.iconst 0, 1) := by decide +kernel
theorem dX0_rank_70 : decode cX0_rank 70 = .ok (.invokevirtual 68, 3) := by decide +kernel
theorem dX0_rank_73 : decode cX0_rank 73 = .ok (.istore 9, 2) := by decide +kernel
theorem dX0_rank_75 : decode cX0_rank 75 = .ok (.iload 7, 2) := by decide +kernel
theorem dX0_rank_77 : decode cX0_rank 77 = .ok (.iload 9, 2) := by decide +kernel
theorem dX0_rank_79 : decode cX0_rank 79 = .ok (.iadd, 1) := by decide +kernel
theorem dX0_rank_80 : decode cX0_rank 80 = .ok (.istore 7, 2) := by decide +kernel
theorem dX0_rank_82 : decode cX0_rank 82 = .ok (.iinc 8 1, 3) := by decide +kernel
theorem dX0_rank_85 : decode cX0_rank 85 = .ok (.goto (-29), 3) := by decide +kernel
theorem dX0_rank_88 : decode cX0_rank 88 = .ok (.aload_n 0, 1) := by decide +kernel
theorem dX0_rank_89 : decode cX0_rank 89 = .ok (.iconst 0, 1) := by decide +kernel
theorem dX0_rank_90 : decode cX0_rank 90 = .ok (.iload_n 2, 1) := by decide +kernel
theorem dX0_rank_91 : decode cX0_rank 91 = .ok (.iload_n 3, 1) := by decide +kernel
theorem dX0_rank_92 : decode cX0_rank 92 = .ok (.iconst 1, 1) := by decide +kernel
theorem dX0_rank_93 : decode cX0_rank 93 = .ok (.iconst 0, 1) := by decide +kernel
theorem dX0_rank_94 : decode cX0_rank 94 = .ok (.invokevirtual 68, 3) := by decide +kernel
theorem dX0_rank_97 : decode cX0_rank 97 = .ok (.istore 8, 2) := by decide +kernel
theorem dX0_rank_99 : decode cX0_rank 99 = .ok (.iload 7, 2) := by decide +kernel
theorem dX0_rank_101 : decode cX0_rank 101 = .ok (.iload 8, 2) := by decide +kernel
theorem dX0_rank_103 : decode cX0_rank 103 = .ok (.iadd, 1) := by decide +kernel
theorem dX0_rank_104 : decode cX0_rank 104 = .ok (.istore 7, 2) := by decide +kernel
theorem dX0_rank_106 : decode cX0_rank 106 = .ok (.aload_n 0, 1) := by decide +kernel
theorem dX0_rank_107 : decode cX0_rank 107 = .ok (.iconst 0, 1) := by decide +kernel
theorem dX0_rank_108 : decode cX0_rank 108 = .ok (.iload_n 2, 1) := by decide +kernel
theorem dX0_rank_109 : decode cX0_rank 109 = .ok (.iload_n 3, 1) := by decide +kernel
theorem dX0_rank_110 : decode cX0_rank 110 = .ok (.invokevirtual 35, 3) := by decide +kernel
theorem dX0_rank_113 : decode cX0_rank 113 = .ok (.ifCond .eq 94, 3) := by decide +kernel
theorem dX0_rank_116 : decode cX0_rank 116 = .ok (.aload_n 0, 1) := by decide +kernel
theorem dX0_rank_117 : decode cX0_rank 117 = .ok (.iconst 1, 1) := by decide +kernel
theorem dX0_rank_118 : decode cX0_rank 118 = .ok (.iload_n 3, 1) := by decide +kernel
theorem dX0_rank_119 : decode cX0_rank 119 = .ok (.iload 4, 2) := by decide +kernel
theorem dX0_rank_121 : decode cX0_rank 121 = .ok (.aload_n 0, 1) := by decide +kernel
theorem dX0_rank_122 : decode cX0_rank 122 = .ok (.getfield 19, 3) := by decide +kernel
theorem dX0_rank_125 : decode cX0_rank 125 = .ok (.iload_n 3, 1) := by decide +kernel
theorem dX0_rank_126 : decode cX0_rank 126 = .ok (.iaload, 1) := by decide +kernel
theorem dX0_rank_127 : decode cX0_rank 127 = .ok (.iconst 1, 1) := by decide +kernel
theorem dX0_rank_128 : decode cX0_rank 128 = .ok (.invokevirtual 68, 3) := by decide +kernel
theorem dX0_rank_131 : decode cX0_rank 131 = .ok (.istore 8, 2) := by decide +kernel
theorem dX0_rank_133 : decode cX0_rank 133 = .ok (.iload 7, 2) := by decide +kernel
theorem dX0_rank_135 : decode cX0_rank 135 = .ok (.iload 8, 2) := by decide +kernel
theorem dX0_rank_137 : decode cX0_rank 137 = .ok (.iadd, 1) := by decide +kernel
theorem dX0_rank_138 : decode cX0_rank 138 = .ok (.istore 7, 2) := by decide +kernel
theorem dX0_rank_140 : decode cX0_rank 140 = .ok (.aload_n 0, 1) := by decide +kernel
theorem dX0_rank_141 : decode cX0_rank 141 = .ok (.iconst 1, 1) := by decide +kernel
theorem dX0_rank_142 : decode cX0_rank 142 = .ok (.iload_n 3, 1) := by decide +kernel
theorem dX0_rank_143 : decode cX0_rank 143 = .ok (.iload 4, 2) := by decide +kernel
theorem dX0_rank_145 : decode cX0_rank 145 = .ok (.invokevirtual 35, 3) := by decide +kernel
theorem dX0_rank_148 : decode cX0_rank 148 = .ok (.ifCond .eq 59, 3) := by decide +kernel
theorem dX0_rank_151 : decode cX0_rank 151 = .ok (.aload_n 0, 1) := by decide +kernel
theorem dX0_rank_152 : decode cX0_rank 152 = .ok (.iconst 2, 1) := by decide +kernel
theorem dX0_rank_153 : decode cX0_rank 153 = .ok (.iload 4, 2) := by decide +kernel
theorem dX0_rank_155 : decode cX0_rank 155 = .ok (.iload 5, 2) := by decide +kernel
theorem dX0_rank_157 : decode cX0_rank 157 = .ok (.aload_n 0, 1) := by decide +kernel
theorem dX0_rank_158 : decode cX0_rank 158 = .ok (.getfield 19, 3) := by decide +kernel
theorem dX0_rank_161 : decode cX0_rank 161 = .ok (.iload_n 3, 1) := by decide +kernel
theorem dX0_rank_162 : decode cX0_rank 162 = .ok (.iaload, 1) := by decide +kernel
theorem dX0_rank_163 : decode cX0_rank 163 = .ok (.iconst 2, 1) := by decide +kernel
theorem dX0_rank_164 : decode cX0_rank 164 = .ok (.invokevirtual 68, 3) := by decide +kernel
theorem dX0_rank_167 : decode cX0_rank 167 = .ok (.istore 8, 2) := by decide +kernel
theorem dX0_rank_169 : decode cX0_rank 169 = .ok (.iload 7, 2) := by decide +kernel
theorem dX0_rank_171 : decode cX0_rank 171 = .ok (.iload 8, 2) := by decide +kernel
theorem dX0_rank_173 : decode cX0_rank 173 = .ok (.iadd, 1) := by decide +kernel
theorem dX0_rank_174 : decode cX0_rank 174 = .ok (.istore 7, 2) := by decide +kernel
theorem dX0_rank_176 : decode cX0_rank 176 = .ok (.aload_n 0, 1) := by decide +kernel
theorem dX0_rank_177 : decode cX0_rank 177 = .ok (.iconst 2, 1) := by decide +kernel
theorem dX0_rank_178 : decode cX0_rank 178 = .ok (.iload 4, 2) := by decide +kernel
theorem dX0_rank_180 : decode cX0_rank 180 = .ok (.iload 5, 2) := by decide +kernel
theorem dX0_rank_182 : decode cX0_rank 182 = .ok (.invokevirtual 35, 3) := by decide +kernel
theorem dX0_rank_185 : decode cX0_rank 185 = .ok (.ifCond .eq 22, 3) := by decide +kernel
theorem dX0_rank_188 : decode cX0_rank 188 = .ok (.aload_n 0, 1) := by decide +kernel
theorem dX0_rank_189 : decode cX0_rank 189 = .ok (.iconst 3, 1) := by decide +kernel
theorem dX0_rank_190 : decode cX0_rank 190 = .ok (.iload_n 3, 1) := by decide +kernel
theorem dX0_rank_191 : decode cX0_rank 191 = .ok (.iload 6, 2) := by decide +kernel
theorem dX0_rank_193 : decode cX0_rank 193 = .ok (.iconst 1, 1) := by decide +kernel
theorem dX0_rank_194 : decode cX0_rank 194 = .ok (.iconst 2, 1) := by decide +kernel
theorem dX0_rank_195 : decode cX0_rank 195 = .ok (.invokevirtual 68, 3) := by decide +kernel
theorem dX0_rank_198 : decode cX0_rank 198 = .ok (.istore 8, 2) := by decide +kernel
theorem dX0_rank_200 : decode cX0_rank 200 = .ok (.iload 7, 2) := by decide +kernel
theorem dX0_rank_202 : decode cX0_rank 202 = .ok (.iload 8, 2) := by decide +kernel
theorem dX0_rank_204 : decode cX0_rank 204 = .ok (.iadd, 1) := by decide +kernel
theorem dX0_rank_205 : decode cX0_rank 205 = .ok (.istore 7, 2) := by decide +kernel
theorem dX0_rank_207 : decode cX0_rank 207 = .ok (.iload 7, 2) := by decide +kernel
theorem dX0_rank_209 : decode cX0_rank 209 = .ok (.ireturn, 1) := by decide +kernel
theorem dX0_below_0 : decode cX0_below 0 = .ok (.iconst 0, 1) := by decide +kernel
theorem dX0_below_1 : decode cX0_below 1 = .ok (.istore 6, 2) := by decide +kernel
theorem dX0_below_3 : decode cX0_below 3 = .ok (.iconst 0, 1) := by decide +kernel
theorem dX0_below_4 : decode cX0_below 4 = .ok (.istore 7, 2) := by decide +kernel
theorem dX0_below_6 : decode cX0_below 6 = .ok (.iload 7, 2) := by decide +kernel
theorem dX0_below_8 : decode cX0_below 8 = .ok (.iload_n 3, 1) := by decide +kernel
theorem dX0_below_9 : decode cX0_below 9 = .ok (.if_icmp .ge 59, 3) := by decide +kernel
theorem dX0_below_12 : decode cX0_below 12 = .ok (.aload_n 0, 1) := by decide +kernel
theorem dX0_below_13 : decode cX0_below 13 = .ok (.iload_n 1, 1) := by decide +kernel
theorem dX0_below_14 : decode cX0_below 14 = .ok (.iload_n 2, 1) := by decide +kernel
theorem dX0_below_15 : decode cX0_below 15 = .ok (.iload 7, 2) := by decide +kernel
theorem dX0_below_17 : decode cX0_below 17 = .ok (.invokevirtual 35, 3) := by decide +kernel
theorem dX0_below_20 : decode cX0_below 20 = .ok (.ifCond .eq 42, 3) := by decide +kernel
theorem dX0_below_23 : decode cX0_below 23 = .ok (.iload 6, 2) := by decide +kernel
theorem dX0_below_25 : decode cX0_below 25 = .ok (.iload 4, 2) := by decide +kernel
theorem dX0_below_27 : decode cX0_below 27 = .ok (.iload 5, 2) := by decide +kernel
theorem dX0_below_29 : decode cX0_below 29 = .ok (.ifCond .ne 12, 3) := by decide +kernel
theorem dX0_below_32 : decode cX0_below 32 = .ok (.aload_n 0, 1) := by decide +kernel
theorem dX0_below_33 : decode cX0_below 33 = .ok (.iload 7, 2) := by decide +kernel
theorem dX0_below_35 : decode cX0_below 35 = .ok (.invokevirtual 49, 3) := by decide +kernel
theorem dX0_below_38 : decode cX0_below 38 = .ok (.goto 20, 3) := by decide +kernel
theorem dX0_below_41 : decode cX0_below 41 = .ok (.iload 5, 2) := by decide +kernel
theorem dX0_below_43 : decode cX0_below 43 = .ok (.iconst 1, 1) := by decide +kernel
theorem dX0_below_44 : decode cX0_below 44 = .ok (.if_icmp .ne 13, 3) := by decide +kernel
theorem dX0_below_47 : decode cX0_below 47 = .ok (.aload_n 0, 1) := by decide +kernel
theorem dX0_below_48 : decode cX0_below 48 = .ok (.getfield 16, 3) := by decide +kernel
theorem dX0_below_51 : decode cX0_below 51 = .ok (.iload 7, 2) := by decide +kernel
theorem dX0_below_53 : decode cX0_below 53 = .ok (.iaload, 1) := by decide +kernel
theorem dX0_below_54 : decode cX0_below 54 = .ok (.goto 4, 3) := by decide +kernel
theorem dX0_below_57 : decode cX0_below 57 = .ok (.iconst 1, 1) := by decide +kernel
theorem dX0_below_58 : decode cX0_below 58 = .ok (.imul, 1) := by decide +kernel
theorem dX0_below_59 : decode cX0_below 59 = .ok (.iadd, 1) := by decide +kernel
theorem dX0_below_60 : decode cX0_below 60 = .ok (.istore 6, 2) := by decide +kernel
theorem dX0_below_62 : decode cX0_below 62 = .ok (.iinc 7 1, 3) := by decide +kernel
theorem dX0_below_65 : decode cX0_below 65 = .ok (.goto (-59), 3) := by decide +kernel
theorem dX0_below_68 : decode cX0_below 68 = .ok (.iload 6, 2) := by decide +kernel
theorem dX0_below_70 : decode cX0_below 70 = .ok (.ireturn, 1) := by decide +kernel
theorem dX0_useful_0 : decode cX0_useful 0 = .ok (.iload_n 1, 1) := by decide +kernel
theorem dX0_useful_1 : decode cX0_useful 1 = .ok (.ifCond .lt 8, 3) := by decide +kernel
theorem dX0_useful_4 : decode cX0_useful 4 = .ok (.iload_n 1, 1) := by decide +kernel
theorem dX0_useful_5 : decode cX0_useful 5 = .ok (.iconst 4, 1) := by decide +kernel
theorem dX0_useful_6 : decode cX0_useful 6 = .ok (.if_icmp .lt 5, 3) := by decide +kernel
theorem dX0_useful_9 : decode cX0_useful 9 = .ok (.iconst (-1), 1) := by decide +kernel
theorem dX0_useful_10 : decode cX0_useful 10 = .ok (.ireturn, 1) := by decide +kernel
theorem dX0_useful_11 : decode cX0_useful 11 = .ok (.aload_n 0, 1) := by decide +kernel
theorem dX0_useful_12 : decode cX0_useful 12 = .ok (.invokevirtual 46, 3) := by decide +kernel
theorem dX0_useful_15 : decode cX0_useful 15 = .ok (.iconst 0, 1) := by decide +kernel
theorem dX0_useful_16 : decode cX0_useful 16 = .ok (.istore_n 2, 1) := by decide +kernel
theorem dX0_useful_17 : decode cX0_useful 17 = .ok (.iconst 0, 1) := by decide +kernel
theorem dX0_useful_18 : decode cX0_useful 18 = .ok (.istore_n 3, 1) := by decide +kernel
theorem dX0_useful_19 : decode cX0_useful 19 = .ok (.iload_n 3, 1) := by decide +kernel
theorem dX0_useful_20 : decode cX0_useful 20 = .ok (.bipush 8, 2) := by decide +kernel
theorem dX0_useful_22 : decode cX0_useful 22 = .ok (.if_icmp .ge 67, 3) := by decide +kernel
theorem dX0_useful_25 : decode cX0_useful 25 = .ok (.iconst 0, 1) := by decide +kernel
theorem dX0_useful_26 : decode cX0_useful 26 = .ok (.istore 4, 2) := by decide +kernel
theorem dX0_useful_28 : decode cX0_useful 28 = .ok (.iload 4, 2) := by decide +kernel
theorem dX0_useful_30 : decode cX0_useful 30 = .ok (.bipush 8, 2) := by decide +kernel
theorem dX0_useful_32 : decode cX0_useful 32 = .ok (.if_icmp .ge 51, 3) := by decide +kernel
theorem dX0_useful_35 : decode cX0_useful 35 = .ok (.aload_n 0, 1) := by decide +kernel
theorem dX0_useful_36 : decode cX0_useful 36 = .ok (.iload_n 1, 1) := by decide +kernel
theorem dX0_useful_37 : decode cX0_useful 37 = .ok (.iload_n 3, 1) := by decide +kernel
theorem dX0_useful_38 : decode cX0_useful 38 = .ok (.iload 4, 2) := by decide +kernel
theorem dX0_useful_40 : decode cX0_useful 40 = .ok (.invokevirtual 35, 3) := by decide +kernel
theorem dX0_useful_43 : decode cX0_useful 43 = .ok (.ifCond .eq 18, 3) := by decide +kernel
theorem dX0_useful_46 : decode cX0_useful 46 = .ok (.aload_n 0, 1) := by decide +kernel
theorem dX0_useful_47 : decode cX0_useful 47 = .ok (.iload_n 1, 1) := by decide +kernel
theorem dX0_useful_48 : decode cX0_useful 48 = .ok (.iload_n 3, 1) := by decide +kernel
theorem dX0_useful_49 : decode cX0_useful 49 = .ok (.iload 4, 2) := by decide +kernel
theorem dX0_useful_51 : decode cX0_useful 51 = .ok (.invokevirtual 72, 3) := by decide +kernel
theorem dX0_useful_54 : decode cX0_useful 54 = .ok (.ifCond .le 7, 3) := by decide +kernel
theorem dX0_useful_57 : decode cX0_useful 57 = .ok (.iconst 1, 1) := by decide +kernel
theorem dX0_useful_58 : decode cX0_useful 58 = .ok (.goto 4, 3) := by decide +kernel
theorem dX0_useful_61 : decode cX0_useful 61 = .ok (.iconst 0, 1) := by decide +kernel
theorem dX0_useful_62 : decode cX0_useful 62 = .ok (.istore 5, 2) := by decide +kernel
theorem dX0_useful_64 : decode cX0_useful 64 = .ok (.iload 5, 2) := by decide +kernel
theorem dX0_useful_66 : decode cX0_useful 66 = .ok (.ifCond .eq 9, 3) := by decide +kernel
theorem dX0_useful_69 : decode cX0_useful 69 = .ok (.iload_n 2, 1) := by decide +kernel
theorem dX0_useful_70 : decode cX0_useful 70 = .ok (.iconst 1, 1) := by decide +kernel
theorem dX0_useful_71 : decode cX0_useful 71 = .ok (.iadd, 1) := by decide +kernel
theorem dX0_useful_72 : decode cX0_useful 72 = .ok (.goto 4, 3) := by decide +kernel
theorem dX0_useful_75 : decode cX0_useful 75 = .ok (.iload_n 2, 1) := by decide +kernel
theorem dX0_useful_76 : decode cX0_useful 76 = .ok (.istore_n 2, 1) := by decide +kernel
theorem dX0_useful_77 : decode cX0_useful 77 = .ok (.iinc 4 1, 3) := by decide +kernel
theorem dX0_useful_80 : decode cX0_useful 80 = .ok (.goto (-52), 3) := by decide +kernel
theorem dX0_useful_83 : decode cX0_useful 83 = .ok (.iinc 3 1, 3) := by decide +kernel
theorem dX0_useful_86 : decode cX0_useful 86 = .ok (.goto (-67), 3) := by decide +kernel
theorem dX0_useful_89 : decode cX0_useful 89 = .ok (.iload_n 2, 1) := by decide +kernel
theorem dX0_useful_90 : decode cX0_useful 90 = .ok (.ireturn, 1) := by decide +kernel
theorem dX0_share_0 : decode cX0_share 0 = .ok (.iload_n 1, 1) := by decide +kernel
theorem dX0_share_1 : decode cX0_share 1 = .ok (.ifCond .ne 9, 3) := by decide +kernel
theorem dX0_share_4 : decode cX0_share 4 = .ok (.aload_n 0, 1) := by decide +kernel
theorem dX0_share_5 : decode cX0_share 5 = .ok (.iload_n 3, 1) := by decide +kernel
theorem dX0_share_6 : decode cX0_share 6 = .ok (.invokevirtual 49, 3) := by decide +kernel
theorem dX0_share_9 : decode cX0_share 9 = .ok (.ireturn, 1) := by decide +kernel
theorem dX0_share_10 : decode cX0_share 10 = .ok (.iload_n 1, 1) := by decide +kernel
theorem dX0_share_11 : decode cX0_share 11 = .ok (.iconst 1, 1) := by decide +kernel
theorem dX0_share_12 : decode cX0_share 12 = .ok (.if_icmp .ne 24, 3) := by decide +kernel
theorem dX0_share_15 : decode cX0_share 15 = .ok (.aload_n 0, 1) := by decide +kernel
theorem dX0_share_16 : decode cX0_share 16 = .ok (.getfield 25, 3) := by decide +kernel
theorem dX0_share_19 : decode cX0_share 19 = .ok (.iload_n 2, 1) := by decide +kernel
theorem dX0_share_20 : decode cX0_share 20 = .ok (.iaload, 1) := by decide +kernel
theorem dX0_share_21 : decode cX0_share 21 = .ok (.aload_n 0, 1) := by decide +kernel
theorem dX0_share_22 : decode cX0_share 22 = .ok (.getfield 19, 3) := by decide +kernel
theorem dX0_share_25 : decode cX0_share 25 = .ok (.iload_n 2, 1) := by decide +kernel
theorem dX0_share_26 : decode cX0_share 26 = .ok (.iaload, 1) := by decide +kernel
theorem dX0_share_27 : decode cX0_share 27 = .ok (.imul, 1) := by decide +kernel
theorem dX0_share_28 : decode cX0_share 28 = .ok (.aload_n 0, 1) := by decide +kernel
theorem dX0_share_29 : decode cX0_share 29 = .ok (.getfield 16, 3) := by decide +kernel
theorem dX0_share_32 : decode cX0_share 32 = .ok (.iload_n 3, 1) := by decide +kernel
theorem dX0_share_33 : decode cX0_share 33 = .ok (.iaload, 1) := by decide +kernel
theorem dX0_share_34 : decode cX0_share 34 = .ok (.imul, 1) := by decide +kernel
theorem dX0_share_35 : decode cX0_share 35 = .ok (.ireturn, 1) := by decide +kernel
theorem dX0_share_36 : decode cX0_share 36 = .ok (.iload_n 1, 1) := by decide +kernel
theorem dX0_share_37 : decode cX0_share 37 = .ok (.iconst 2, 1) := by decide +kernel
theorem dX0_share_38 : decode cX0_share 38 = .ok (.if_icmp .ne 12, 3) := by decide +kernel
theorem dX0_share_41 : decode cX0_share 41 = .ok (.aload_n 0, 1) := by decide +kernel
theorem dX0_share_42 : decode cX0_share 42 = .ok (.getfield 28, 3) := by decide +kernel
theorem dX0_share_45 : decode cX0_share 45 = .ok (.iload_n 2, 1) := by decide +kernel
theorem dX0_share_46 : decode cX0_share 46 = .ok (.iaload, 1) := by decide +kernel
theorem dX0_share_47 : decode cX0_share 47 = .ok (.goto 16, 3) := by decide +kernel
theorem dX0_share_50 : decode cX0_share 50 = .ok (.aload_n 0, 1) := by decide +kernel
theorem dX0_share_51 : decode cX0_share 51 = .ok (.getfield 25, 3) := by decide +kernel
theorem dX0_share_54 : decode cX0_share 54 = .ok (.iload_n 2, 1) := by decide +kernel
theorem dX0_share_55 : decode cX0_share 55 = .ok (.iaload, 1) := by decide +kernel
theorem dX0_share_56 : decode cX0_share 56 = .ok (.aload_n 0, 1) := by decide +kernel
theorem dX0_share_57 : decode cX0_share 57 = .ok (.getfield 22, 3) := by decide +kernel
theorem dX0_share_60 : decode cX0_share 60 = .ok (.iload_n 2, 1) := by decide +kernel
theorem dX0_share_61 : decode cX0_share 61 = .ok (.iaload, 1) := by decide +kernel
theorem dX0_share_62 : decode cX0_share 62 = .ok (.imul, 1) := by decide +kernel
theorem dX0_share_63 : decode cX0_share 63 = .ok (.ireturn, 1) := by decide +kernel
theorem dX0_weight_0 : decode cX0_weight 0 = .ok (.aload_n 0, 1) := by decide +kernel
theorem dX0_weight_1 : decode cX0_weight 1 = .ok (.iload_n 1, 1) := by decide +kernel
theorem dX0_weight_2 : decode cX0_weight 2 = .ok (.iload_n 2, 1) := by decide +kernel
theorem dX0_weight_3 : decode cX0_weight 3 = .ok (.iload_n 3, 1) := by decide +kernel
theorem dX0_weight_4 : decode cX0_weight 4 = .ok (.invokevirtual 31, 3) := by decide +kernel
theorem dX0_weight_7 : decode cX0_weight 7 = .ok (.ifCond .ne 13, 3) := by decide +kernel
theorem dX0_weight_10 : decode cX0_weight 10 = .ok (.aload_n 0, 1) := by decide +kernel
theorem dX0_weight_11 : decode cX0_weight 11 = .ok (.iload_n 1, 1) := by decide +kernel
theorem dX0_weight_12 : decode cX0_weight 12 = .ok (.iload_n 2, 1) := by decide +kernel
theorem dX0_weight_13 : decode cX0_weight 13 = .ok (.iload_n 3, 1) := by decide +kernel
theorem dX0_weight_14 : decode cX0_weight 14 = .ok (.invokevirtual 35, 3) := by decide +kernel
theorem dX0_weight_17 : decode cX0_weight 17 = .ok (.ifCond .ne 5, 3) := by decide +kernel
theorem dX0_weight_20 : decode cX0_weight 20 = .ok (.iconst 0, 1) := by decide +kernel
theorem dX0_weight_21 : decode cX0_weight 21 = .ok (.ireturn, 1) := by decide +kernel
theorem dX0_weight_22 : decode cX0_weight 22 = .ok (.aload_n 0, 1) := by decide +kernel
theorem dX0_weight_23 : decode cX0_weight 23 = .ok (.invokevirtual 46, 3) := by decide +kernel
theorem dX0_weight_26 : decode cX0_weight 26 = .ok (.aload_n 0, 1) := by decide +kernel
end
end
section
section
set_option maxRecDepth 100000
theorem dX0_weight_27 : decode cX0_weight 27 = .ok (.iload_n 1, 1) := by decide +kernel
theorem dX0_weight_28 : decode cX0_weight 28 = .ok (.iload_n 2, 1) := by decide +kernel
theorem dX0_weight_29 : decode cX0_weight 29 = .ok (.iload_n 3, 1) := by decide +kernel
theorem dX0_weight_30 : decode cX0_weight 30 = .ok (.invokevirtual 72, 3) := by decide +kernel
theorem dX0_weight_33 : decode cX0_weight 33 = .ok (.ireturn, 1) := by decide +kernel
theorem dX0_gain_0 : decode cX0_gain 0 = .ok (.aload_n 0, 1) := by decide +kernel
theorem dX0_gain_1 : decode cX0_gain 1 = .ok (.iload_n 1, 1) := by decide +kernel
theorem dX0_gain_2 : decode cX0_gain 2 = .ok (.iload_n 2, 1) := by decide +kernel
theorem dX0_gain_3 : decode cX0_gain 3 = .ok (.iload_n 3, 1) := by decide +kernel
theorem dX0_gain_4 : decode cX0_gain 4 = .ok (.invokevirtual 31, 3) := by decide +kernel
theorem dX0_gain_7 : decode cX0_gain 7 = .ok (.ifCond .eq 5, 3) := by decide +kernel
theorem dX0_gain_10 : decode cX0_gain 10 = .ok (.iconst (-1), 1) := by decide +kernel
theorem dX0_gain_11 : decode cX0_gain 11 = .ok (.ireturn, 1) := by decide +kernel
theorem dX0_gain_12 : decode cX0_gain 12 = .ok (.aload_n 0, 1) := by decide +kernel
theorem dX0_gain_13 : decode cX0_gain 13 = .ok (.iload_n 1, 1) := by decide +kernel
theorem dX0_gain_14 : decode cX0_gain 14 = .ok (.iload_n 2, 1) := by decide +kernel
theorem dX0_gain_15 : decode cX0_gain 15 = .ok (.iload_n 3, 1) := by decide +kernel
theorem dX0_gain_16 : decode cX0_gain 16 = .ok (.invokevirtual 35, 3) := by decide +kernel
theorem dX0_gain_19 : decode cX0_gain 19 = .ok (.ifCond .eq 5, 3) := by decide +kernel
theorem dX0_gain_22 : decode cX0_gain 22 = .ok (.iconst 0, 1) := by decide +kernel
theorem dX0_gain_23 : decode cX0_gain 23 = .ok (.ireturn, 1) := by decide +kernel
theorem dX0_gain_24 : decode cX0_gain 24 = .ok (.aload_n 0, 1) := by decide +kernel
theorem dX0_gain_25 : decode cX0_gain 25 = .ok (.invokevirtual 46, 3) := by decide +kernel
theorem dX0_gain_28 : decode cX0_gain 28 = .ok (.aload_n 0, 1) := by decide +kernel
theorem dX0_gain_29 : decode cX0_gain 29 = .ok (.iload_n 1, 1) := by decide +kernel
theorem dX0_gain_30 : decode cX0_gain 30 = .ok (.iload_n 2, 1) := by decide +kernel
theorem dX0_gain_31 : decode cX0_gain 31 = .ok (.iload_n 3, 1) := by decide +kernel
theorem dX0_gain_32 : decode cX0_gain 32 = .ok (.invokevirtual 72, 3) := by decide +kernel
theorem dX0_gain_35 : decode cX0_gain 35 = .ok (.ireturn, 1) := by decide +kernel
theorem dX0_values_0 : decode cX0_values 0 = .ok (.iload_n 1, 1) := by decide +kernel
theorem dX0_values_1 : decode cX0_values 1 = .ok (.ifCond .lt 8, 3) := by decide +kernel
theorem dX0_values_4 : decode cX0_values 4 = .ok (.iload_n 1, 1) := by decide +kernel
theorem dX0_values_5 : decode cX0_values 5 = .ok (.iconst 4, 1) := by decide +kernel
theorem dX0_values_6 : decode cX0_values 6 = .ok (.if_icmp .le 5, 3) := by decide +kernel
theorem dX0_values_9 : decode cX0_values 9 = .ok (.iconst (-1), 1) := by decide +kernel
theorem dX0_values_10 : decode cX0_values 10 = .ok (.ireturn, 1) := by decide +kernel
theorem dX0_values_11 : decode cX0_values 11 = .ok (.aload_n 0, 1) := by decide +kernel
theorem dX0_values_12 : decode cX0_values 12 = .ok (.invokevirtual 46, 3) := by decide +kernel
theorem dX0_values_15 : decode cX0_values 15 = .ok (.iconst 0, 1) := by decide +kernel
theorem dX0_values_16 : decode cX0_values 16 = .ok (.istore_n 2, 1) := by decide +kernel
theorem dX0_values_17 : decode cX0_values 17 = .ok (.iconst 0, 1) := by decide +kernel
theorem dX0_values_18 : decode cX0_values 18 = .ok (.istore_n 3, 1) := by decide +kernel
theorem dX0_values_19 : decode cX0_values 19 = .ok (.iload_n 3, 1) := by decide +kernel
theorem dX0_values_20 : decode cX0_values 20 = .ok (.bipush 8, 2) := by decide +kernel
theorem dX0_values_22 : decode cX0_values 22 = .ok (.if_icmp .ge 30, 3) := by decide +kernel
theorem dX0_values_25 : decode cX0_values 25 = .ok (.aload_n 0, 1) := by decide +kernel
theorem dX0_values_26 : decode cX0_values 26 = .ok (.iload_n 1, 1) := by decide +kernel
theorem dX0_values_27 : decode cX0_values 27 = .ok (.iload_n 3, 1) := by decide +kernel
theorem dX0_values_28 : decode cX0_values 28 = .ok (.invokevirtual 76, 3) := by decide +kernel
theorem dX0_values_31 : decode cX0_values 31 = .ok (.istore 4, 2) := by decide +kernel
theorem dX0_values_33 : decode cX0_values 33 = .ok (.iload 4, 2) := by decide +kernel
theorem dX0_values_35 : decode cX0_values 35 = .ok (.ifCond .le 9, 3) := by decide +kernel
theorem dX0_values_38 : decode cX0_values 38 = .ok (.iload_n 2, 1) := by decide +kernel
theorem dX0_values_39 : decode cX0_values 39 = .ok (.iconst 1, 1) := by decide +kernel
theorem dX0_values_40 : decode cX0_values 40 = .ok (.iadd, 1) := by decide +kernel
theorem dX0_values_41 : decode cX0_values 41 = .ok (.goto 4, 3) := by decide +kernel
theorem dX0_values_44 : decode cX0_values 44 = .ok (.iload_n 2, 1) := by decide +kernel
theorem dX0_values_45 : decode cX0_values 45 = .ok (.istore_n 2, 1) := by decide +kernel
theorem dX0_values_46 : decode cX0_values 46 = .ok (.iinc 3 1, 3) := by decide +kernel
theorem dX0_values_49 : decode cX0_values 49 = .ok (.goto (-30), 3) := by decide +kernel
theorem dX0_values_52 : decode cX0_values 52 = .ok (.iload_n 2, 1) := by decide +kernel
theorem dX0_values_53 : decode cX0_values 53 = .ok (.ireturn, 1) := by decide +kernel
theorem dX0_inColumn_0 : decode cX0_inColumn 0 = .ok (.iconst 0, 1) := by decide +kernel
theorem dX0_inColumn_1 : decode cX0_inColumn 1 = .ok (.istore_n 3, 1) := by decide +kernel
theorem dX0_inColumn_2 : decode cX0_inColumn 2 = .ok (.iconst 0, 1) := by decide +kernel
theorem dX0_inColumn_3 : decode cX0_inColumn 3 = .ok (.istore 4, 2) := by decide +kernel
theorem dX0_inColumn_5 : decode cX0_inColumn 5 = .ok (.iload 4, 2) := by decide +kernel
theorem dX0_inColumn_7 : decode cX0_inColumn 7 = .ok (.bipush 8, 2) := by decide +kernel
theorem dX0_inColumn_9 : decode cX0_inColumn 9 = .ok (.if_icmp .ge 143, 3) := by decide +kernel
theorem dX0_inColumn_12 : decode cX0_inColumn 12 = .ok (.iload_n 1, 1) := by decide +kernel
theorem dX0_inColumn_13 : decode cX0_inColumn 13 = .ok (.ifCond .ne 25, 3) := by decide +kernel
theorem dX0_inColumn_16 : decode cX0_inColumn 16 = .ok (.aload_n 0, 1) := by decide +kernel
theorem dX0_inColumn_17 : decode cX0_inColumn 17 = .ok (.iconst 0, 1) := by decide +kernel
theorem dX0_inColumn_18 : decode cX0_inColumn 18 = .ok (.iload_n 2, 1) := by decide +kernel
theorem dX0_inColumn_19 : decode cX0_inColumn 19 = .ok (.iload 4, 2) := by decide +kernel
theorem dX0_inColumn_21 : decode cX0_inColumn 21 = .ok (.invokevirtual 35, 3) := by decide +kernel
theorem dX0_inColumn_24 : decode cX0_inColumn 24 = .ok (.ifCond .eq 14, 3) := by decide +kernel
theorem dX0_inColumn_27 : decode cX0_inColumn 27 = .ok (.iload_n 3, 1) := by decide +kernel
theorem dX0_inColumn_28 : decode cX0_inColumn 28 = .ok (.aload_n 0, 1) := by decide +kernel
theorem dX0_inColumn_29 : decode cX0_inColumn 29 = .ok (.iconst 0, 1) := by decide +kernel
theorem dX0_inColumn_30 : decode cX0_inColumn 30 = .ok (.iload_n 2, 1) := by decide +kernel
theorem dX0_inColumn_31 : decode cX0_inColumn 31 = .ok (.iload 4, 2) := by decide +kernel
theorem dX0_inColumn_33 : decode cX0_inColumn 33 = .ok (.invokevirtual 72, 3) := by decide +kernel
theorem dX0_inColumn_36 : decode cX0_inColumn 36 = .ok (.iadd, 1) := by decide +kernel
theorem dX0_inColumn_37 : decode cX0_inColumn 37 = .ok (.istore_n 3, 1) := by decide +kernel
theorem dX0_inColumn_38 : decode cX0_inColumn 38 = .ok (.iload_n 1, 1) := by decide +kernel
theorem dX0_inColumn_39 : decode cX0_inColumn 39 = .ok (.iconst 1, 1) := by decide +kernel
theorem dX0_inColumn_40 : decode cX0_inColumn 40 = .ok (.if_icmp .ne 25, 3) := by decide +kernel
theorem dX0_inColumn_43 : decode cX0_inColumn 43 = .ok (.aload_n 0, 1) := by decide +kernel
theorem dX0_inColumn_44 : decode cX0_inColumn 44 = .ok (.iconst 0, 1) := by decide +kernel
theorem dX0_inColumn_45 : decode cX0_inColumn 45 = .ok (.iload 4, 2) := by decide +kernel
theorem dX0_inColumn_47 : decode cX0_inColumn 47 = .ok (.iload_n 2, 1) := by decide +kernel
theorem dX0_inColumn_48 : decode cX0_inColumn 48 = .ok (.invokevirtual 35, 3) := by decide +kernel
theorem dX0_inColumn_51 : decode cX0_inColumn 51 = .ok (.ifCond .eq 14, 3) := by decide +kernel
theorem dX0_inColumn_54 : decode cX0_inColumn 54 = .ok (.iload_n 3, 1) := by decide +kernel
theorem dX0_inColumn_55 : decode cX0_inColumn 55 = .ok (.aload_n 0, 1) := by decide +kernel
theorem dX0_inColumn_56 : decode cX0_inColumn 56 = .ok (.iconst 0, 1) := by decide +kernel
theorem dX0_inColumn_57 : decode cX0_inColumn 57 = .ok (.iload 4, 2) := by decide +kernel
theorem dX0_inColumn_59 : decode cX0_inColumn 59 = .ok (.iload_n 2, 1) := by decide +kernel
theorem dX0_inColumn_60 : decode cX0_inColumn 60 = .ok (.invokevirtual 72, 3) := by decide +kernel
theorem dX0_inColumn_63 : decode cX0_inColumn 63 = .ok (.iadd, 1) := by decide +kernel
theorem dX0_inColumn_64 : decode cX0_inColumn 64 = .ok (.istore_n 3, 1) := by decide +kernel
theorem dX0_inColumn_65 : decode cX0_inColumn 65 = .ok (.iload_n 1, 1) := by decide +kernel
theorem dX0_inColumn_66 : decode cX0_inColumn 66 = .ok (.iconst 2, 1) := by decide +kernel
theorem dX0_inColumn_67 : decode cX0_inColumn 67 = .ok (.if_icmp .ne 25, 3) := by decide +kernel
theorem dX0_inColumn_70 : decode cX0_inColumn 70 = .ok (.aload_n 0, 1) := by decide +kernel
theorem dX0_inColumn_71 : decode cX0_inColumn 71 = .ok (.iconst 1, 1) := by decide +kernel
theorem dX0_inColumn_72 : decode cX0_inColumn 72 = .ok (.iload 4, 2) := by decide +kernel
theorem dX0_inColumn_74 : decode cX0_inColumn 74 = .ok (.iload_n 2, 1) := by decide +kernel
theorem dX0_inColumn_75 : decode cX0_inColumn 75 = .ok (.invokevirtual 35, 3) := by decide +kernel
theorem dX0_inColumn_78 : decode cX0_inColumn 78 = .ok (.ifCond .eq 14, 3) := by decide +kernel
theorem dX0_inColumn_81 : decode cX0_inColumn 81 = .ok (.iload_n 3, 1) := by decide +kernel
theorem dX0_inColumn_82 : decode cX0_inColumn 82 = .ok (.aload_n 0, 1) := by decide +kernel
theorem dX0_inColumn_83 : decode cX0_inColumn 83 = .ok (.iconst 1, 1) := by decide +kernel
theorem dX0_inColumn_84 : decode cX0_inColumn 84 = .ok (.iload 4, 2) := by decide +kernel
theorem dX0_inColumn_86 : decode cX0_inColumn 86 = .ok (.iload_n 2, 1) := by decide +kernel
theorem dX0_inColumn_87 : decode cX0_inColumn 87 = .ok (.invokevirtual 72, 3) := by decide +kernel
theorem dX0_inColumn_90 : decode cX0_inColumn 90 = .ok (.iadd, 1) := by decide +kernel
theorem dX0_inColumn_91 : decode cX0_inColumn 91 = .ok (.istore_n 3, 1) := by decide +kernel
theorem dX0_inColumn_92 : decode cX0_inColumn 92 = .ok (.iload_n 1, 1) := by decide +kernel
theorem dX0_inColumn_93 : decode cX0_inColumn 93 = .ok (.iconst 3, 1) := by decide +kernel
theorem dX0_inColumn_94 : decode cX0_inColumn 94 = .ok (.if_icmp .ne 25, 3) := by decide +kernel
theorem dX0_inColumn_97 : decode cX0_inColumn 97 = .ok (.aload_n 0, 1) := by decide +kernel
theorem dX0_inColumn_98 : decode cX0_inColumn 98 = .ok (.iconst 2, 1) := by decide +kernel
theorem dX0_inColumn_99 : decode cX0_inColumn 99 = .ok (.iload 4, 2) := by decide +kernel
theorem dX0_inColumn_101 : decode cX0_inColumn 101 = .ok (.iload_n 2, 1) := by decide +kernel
theorem dX0_inColumn_102 : decode cX0_inColumn 102 = .ok (.invokevirtual 35, 3) := by decide +kernel
theorem dX0_inColumn_105 : decode cX0_inColumn 105 = .ok (.ifCond .eq 14, 3) := by decide +kernel
theorem dX0_inColumn_108 : decode cX0_inColumn 108 = .ok (.iload_n 3, 1) := by decide +kernel
theorem dX0_inColumn_109 : decode cX0_inColumn 109 = .ok (.aload_n 0, 1) := by decide +kernel
theorem dX0_inColumn_110 : decode cX0_inColumn 110 = .ok (.iconst 2, 1) := by decide +kernel
theorem dX0_inColumn_111 : decode cX0_inColumn 111 = .ok (.iload 4, 2) := by decide +kernel
theorem dX0_inColumn_113 : decode cX0_inColumn 113 = .ok (.iload_n 2, 1) := by decide +kernel
theorem dX0_inColumn_114 : decode cX0_inColumn 114 = .ok (.invokevirtual 72, 3) := by decide +kernel
theorem dX0_inColumn_117 : decode cX0_inColumn 117 = .ok (.iadd, 1) := by decide +kernel
theorem dX0_inColumn_118 : decode cX0_inColumn 118 = .ok (.istore_n 3, 1) := by decide +kernel
theorem dX0_inColumn_119 : decode cX0_inColumn 119 = .ok (.iload_n 1, 1) := by decide +kernel
theorem dX0_inColumn_120 : decode cX0_inColumn 120 = .ok (.iconst 4, 1) := by decide +kernel
theorem dX0_inColumn_121 : decode cX0_inColumn 121 = .ok (.if_icmp .ne 25, 3) := by decide +kernel
theorem dX0_inColumn_124 : decode cX0_inColumn 124 = .ok (.aload_n 0, 1) := by decide +kernel
theorem dX0_inColumn_125 : decode cX0_inColumn 125 = .ok (.iconst 3, 1) := by decide +kernel
theorem dX0_inColumn_126 : decode cX0_inColumn 126 = .ok (.iload 4, 2) := by decide +kernel
theorem dX0_inColumn_128 : decode cX0_inColumn 128 = .ok (.iload_n 2, 1) := by decide +kernel
theorem dX0_inColumn_129 : decode cX0_inColumn 129 = .ok (.invokevirtual 35, 3) := by decide +kernel
theorem dX0_inColumn_132 : decode cX0_inColumn 132 = .ok (.ifCond .eq 14, 3) := by decide +kernel
theorem dX0_inColumn_135 : decode cX0_inColumn 135 = .ok (.iload_n 3, 1) := by decide +kernel
theorem dX0_inColumn_136 : decode cX0_inColumn 136 = .ok (.aload_n 0, 1) := by decide +kernel
theorem dX0_inColumn_137 : decode cX0_inColumn 137 = .ok (.iconst 3, 1) := by decide +kernel
theorem dX0_inColumn_138 : decode cX0_inColumn 138 = .ok (.iload 4, 2) := by decide +kernel
theorem dX0_inColumn_140 : decode cX0_inColumn 140 = .ok (.iload_n 2, 1) := by decide +kernel
theorem dX0_inColumn_141 : decode cX0_inColumn 141 = .ok (.invokevirtual 72, 3) := by decide +kernel
theorem dX0_inColumn_144 : decode cX0_inColumn 144 = .ok (.iadd, 1) := by decide +kernel
theorem dX0_inColumn_145 : decode cX0_inColumn 145 = .ok (.istore_n 3, 1) := by decide +kernel
theorem dX0_inColumn_146 : decode cX0_inColumn 146 = .ok (.iinc 4 1, 3) := by decide +kernel
theorem dX0_inColumn_149 : decode cX0_inColumn 149 = .ok (.goto (-144), 3) := by decide +kernel
theorem dX0_inColumn_152 : decode cX0_inColumn 152 = .ok (.iload_n 3, 1) := by decide +kernel
theorem dX0_inColumn_153 : decode cX0_inColumn 153 = .ok (.ireturn, 1) := by decide +kernel
theorem dX0_with_0 : decode cX0_with 0 = .ok (.iload_n 1, 1) := by decide +kernel
theorem dX0_with_1 : decode cX0_with 1 = .ok (.ifCond .lt 18, 3) := by decide +kernel
theorem dX0_with_4 : decode cX0_with 4 = .ok (.iload_n 1, 1) := by decide +kernel
theorem dX0_with_5 : decode cX0_with 5 = .ok (.iconst 4, 1) := by decide +kernel
theorem dX0_with_6 : decode cX0_with 6 = .ok (.if_icmp .gt 13, 3) := by decide +kernel
theorem dX0_with_9 : decode cX0_with 9 = .ok (.iload_n 2, 1) := by decide +kernel
theorem dX0_with_10 : decode cX0_with 10 = .ok (.ifCond .lt 9, 3) := by decide +kernel
theorem dX0_with_13 : decode cX0_with 13 = .ok (.iload_n 2, 1) := by decide +kernel
theorem dX0_with_14 : decode cX0_with 14 = .ok (.bipush 8, 2) := by decide +kernel
theorem dX0_with_16 : decode cX0_with 16 = .ok (.if_icmp .lt 5, 3) := by decide +kernel
theorem dX0_with_19 : decode cX0_with 19 = .ok (.iconst (-1), 1) := by decide +kernel
theorem dX0_with_20 : decode cX0_with 20 = .ok (.ireturn, 1) := by decide +kernel
theorem dX0_with_21 : decode cX0_with 21 = .ok (.aload_n 0, 1) := by decide +kernel
theorem dX0_with_22 : decode cX0_with 22 = .ok (.invokevirtual 46, 3) := by decide +kernel
theorem dX0_with_25 : decode cX0_with 25 = .ok (.aload_n 0, 1) := by decide +kernel
theorem dX0_with_26 : decode cX0_with 26 = .ok (.iload_n 1, 1) := by decide +kernel
theorem dX0_with_27 : decode cX0_with 27 = .ok (.iload_n 2, 1) := by decide +kernel
theorem dX0_with_28 : decode cX0_with 28 = .ok (.invokevirtual 76, 3) := by decide +kernel
theorem dX0_with_31 : decode cX0_with 31 = .ok (.ireturn, 1) := by decide +kernel
theorem dX0_ends_0 : decode cX0_ends 0 = .ok (.aload_n 0, 1) := by decide +kernel
theorem dX0_ends_1 : decode cX0_ends 1 = .ok (.invokevirtual 46, 3) := by decide +kernel
theorem dX0_ends_4 : decode cX0_ends 4 = .ok (.iconst 0, 1) := by decide +kernel
theorem dX0_ends_5 : decode cX0_ends 5 = .ok (.istore_n 1, 1) := by decide +kernel
theorem dX0_ends_6 : decode cX0_ends 6 = .ok (.iconst 0, 1) := by decide +kernel
theorem dX0_ends_7 : decode cX0_ends 7 = .ok (.istore_n 2, 1) := by decide +kernel
theorem dX0_ends_8 : decode cX0_ends 8 = .ok (.iload_n 2, 1) := by decide +kernel
theorem dX0_ends_9 : decode cX0_ends 9 = .ok (.bipush 8, 2) := by decide +kernel
theorem dX0_ends_11 : decode cX0_ends 11 = .ok (.if_icmp .ge 27, 3) := by decide +kernel
theorem dX0_ends_14 : decode cX0_ends 14 = .ok (.aload_n 0, 1) := by decide +kernel
theorem dX0_ends_15 : decode cX0_ends 15 = .ok (.iload_n 2, 1) := by decide +kernel
theorem dX0_ends_16 : decode cX0_ends 16 = .ok (.invokevirtual 80, 3) := by decide +kernel
theorem dX0_ends_19 : decode cX0_ends 19 = .ok (.istore_n 3, 1) := by decide +kernel
theorem dX0_ends_20 : decode cX0_ends 20 = .ok (.aload_n 0, 1) := by decide +kernel
theorem dX0_ends_21 : decode cX0_ends 21 = .ok (.iload_n 3, 1) := by decide +kernel
theorem dX0_ends_22 : decode cX0_ends 22 = .ok (.invokevirtual 42, 3) := by decide +kernel
theorem dX0_ends_25 : decode cX0_ends 25 = .ok (.istore 4, 2) := by decide +kernel
theorem dX0_ends_27 : decode cX0_ends 27 = .ok (.iload_n 1, 1) := by decide +kernel
theorem dX0_ends_28 : decode cX0_ends 28 = .ok (.iload 4, 2) := by decide +kernel
theorem dX0_ends_30 : decode cX0_ends 30 = .ok (.iadd, 1) := by decide +kernel
theorem dX0_ends_31 : decode cX0_ends 31 = .ok (.istore_n 1, 1) := by decide +kernel
theorem dX0_ends_32 : decode cX0_ends 32 = .ok (.iinc 2 1, 3) := by decide +kernel
theorem dX0_ends_35 : decode cX0_ends 35 = .ok (.goto (-27), 3) := by decide +kernel
theorem dX0_ends_38 : decode cX0_ends 38 = .ok (.iload_n 1, 1) := by decide +kernel
theorem dX0_ends_39 : decode cX0_ends 39 = .ok (.ireturn, 1) := by decide +kernel
theorem dX0_endsOf_0 : decode cX0_endsOf 0 = .ok (.iconst 0, 1) := by decide +kernel
theorem dX0_endsOf_1 : decode cX0_endsOf 1 = .ok (.istore_n 2, 1) := by decide +kernel
theorem dX0_endsOf_2 : decode cX0_endsOf 2 = .ok (.iconst 0, 1) := by decide +kernel
theorem dX0_endsOf_3 : decode cX0_endsOf 3 = .ok (.istore_n 3, 1) := by decide +kernel
theorem dX0_endsOf_4 : decode cX0_endsOf 4 = .ok (.iload_n 3, 1) := by decide +kernel
theorem dX0_endsOf_5 : decode cX0_endsOf 5 = .ok (.bipush 8, 2) := by decide +kernel
theorem dX0_endsOf_7 : decode cX0_endsOf 7 = .ok (.if_icmp .ge 68, 3) := by decide +kernel
theorem dX0_endsOf_10 : decode cX0_endsOf 10 = .ok (.iconst 0, 1) := by decide +kernel
theorem dX0_endsOf_11 : decode cX0_endsOf 11 = .ok (.istore 4, 2) := by decide +kernel
theorem dX0_endsOf_13 : decode cX0_endsOf 13 = .ok (.iload 4, 2) := by decide +kernel
theorem dX0_endsOf_15 : decode cX0_endsOf 15 = .ok (.bipush 8, 2) := by decide +kernel
theorem dX0_endsOf_17 : decode cX0_endsOf 17 = .ok (.if_icmp .ge 52, 3) := by decide +kernel
theorem dX0_endsOf_20 : decode cX0_endsOf 20 = .ok (.aload_n 0, 1) := by decide +kernel
theorem dX0_endsOf_21 : decode cX0_endsOf 21 = .ok (.iconst 0, 1) := by decide +kernel
theorem dX0_endsOf_22 : decode cX0_endsOf 22 = .ok (.iload_n 1, 1) := by decide +kernel
theorem dX0_endsOf_23 : decode cX0_endsOf 23 = .ok (.iload_n 3, 1) := by decide +kernel
theorem dX0_endsOf_24 : decode cX0_endsOf 24 = .ok (.invokevirtual 35, 3) := by decide +kernel
theorem dX0_endsOf_27 : decode cX0_endsOf 27 = .ok (.ifCond .eq 36, 3) := by decide +kernel
theorem dX0_endsOf_30 : decode cX0_endsOf 30 = .ok (.aload_n 0, 1) := by decide +kernel
theorem dX0_endsOf_31 : decode cX0_endsOf 31 = .ok (.getfield 19, 3) := by decide +kernel
theorem dX0_endsOf_34 : decode cX0_endsOf 34 = .ok (.iload_n 3, 1) := by decide +kernel
theorem dX0_endsOf_35 : decode cX0_endsOf 35 = .ok (.iaload, 1) := by decide +kernel
theorem dX0_endsOf_36 : decode cX0_endsOf 36 = .ok (.ifCond .le 27, 3) := by decide +kernel
theorem dX0_endsOf_39 : decode cX0_endsOf 39 = .ok (.aload_n 0, 1) := by decide +kernel
theorem dX0_endsOf_40 : decode cX0_endsOf 40 = .ok (.iconst 1, 1) := by decide +kernel
theorem dX0_endsOf_41 : decode cX0_endsOf 41 = .ok (.iload_n 3, 1) := by decide +kernel
theorem dX0_endsOf_42 : decode cX0_endsOf 42 = .ok (.iload 4, 2) := by decide +kernel
theorem dX0_endsOf_44 : decode cX0_endsOf 44 = .ok (.invokevirtual 35, 3) := by decide +kernel
theorem dX0_endsOf_47 : decode cX0_endsOf 47 = .ok (.ifCond .eq 16, 3) := by decide +kernel
theorem dX0_endsOf_50 : decode cX0_endsOf 50 = .ok (.iload_n 2, 1) := by decide +kernel
theorem dX0_endsOf_51 : decode cX0_endsOf 51 = .ok (.aload_n 0, 1) := by decide +kernel
theorem dX0_endsOf_52 : decode cX0_endsOf 52 = .ok (.getfield 7, 3) := by decide +kernel
theorem dX0_endsOf_55 : decode cX0_endsOf 55 = .ok (.bipush 16, 2) := by decide +kernel
theorem dX0_endsOf_57 : decode cX0_endsOf 57 = .ok (.iload 4, 2) := by decide +kernel
theorem dX0_endsOf_59 : decode cX0_endsOf 59 = .ok (.iadd, 1) := by decide +kernel
theorem dX0_endsOf_60 : decode cX0_endsOf 60 = .ok (.iaload, 1) := by decide +kernel
theorem dX0_endsOf_61 : decode cX0_endsOf 61 = .ok (.ior, 1) := by decide +kernel
theorem dX0_endsOf_62 : decode cX0_endsOf 62 = .ok (.istore_n 2, 1) := by decide +kernel
theorem dX0_endsOf_63 : decode cX0_endsOf 63 = .ok (.iinc 4 1, 3) := by decide +kernel
theorem dX0_endsOf_66 : decode cX0_endsOf 66 = .ok (.goto (-53), 3) := by decide +kernel
theorem dX0_endsOf_69 : decode cX0_endsOf 69 = .ok (.iinc 3 1, 3) := by decide +kernel
theorem dX0_endsOf_72 : decode cX0_endsOf 72 = .ok (.goto (-68), 3) := by decide +kernel
theorem dX0_endsOf_75 : decode cX0_endsOf 75 = .ok (.iload_n 2, 1) := by decide +kernel
theorem dX0_endsOf_76 : decode cX0_endsOf 76 = .ok (.ireturn, 1) := by decide +kernel
theorem dX0_sum_0 : decode cX0_sum 0 = .ok (.aload_n 0, 1) := by decide +kernel
theorem dX0_sum_1 : decode cX0_sum 1 = .ok (.invokevirtual 46, 3) := by decide +kernel
theorem dX0_sum_4 : decode cX0_sum 4 = .ok (.iconst 0, 1) := by decide +kernel
theorem dX0_sum_5 : decode cX0_sum 5 = .ok (.istore_n 1, 1) := by decide +kernel
theorem dX0_sum_6 : decode cX0_sum 6 = .ok (.iconst 0, 1) := by decide +kernel
theorem dX0_sum_7 : decode cX0_sum 7 = .ok (.istore_n 2, 1) := by decide +kernel
theorem dX0_sum_8 : decode cX0_sum 8 = .ok (.iload_n 2, 1) := by decide +kernel
theorem dX0_sum_9 : decode cX0_sum 9 = .ok (.bipush 8, 2) := by decide +kernel
theorem dX0_sum_11 : decode cX0_sum 11 = .ok (.if_icmp .ge 33, 3) := by decide +kernel
theorem dX0_sum_14 : decode cX0_sum 14 = .ok (.aload_n 0, 1) := by decide +kernel
theorem dX0_sum_15 : decode cX0_sum 15 = .ok (.iconst 3, 1) := by decide +kernel
theorem dX0_sum_16 : decode cX0_sum 16 = .ok (.iload_n 2, 1) := by decide +kernel
theorem dX0_sum_17 : decode cX0_sum 17 = .ok (.invokevirtual 76, 3) := by decide +kernel
theorem dX0_sum_20 : decode cX0_sum 20 = .ok (.istore_n 3, 1) := by decide +kernel
theorem dX0_sum_21 : decode cX0_sum 21 = .ok (.aload_n 0, 1) := by decide +kernel
theorem dX0_sum_22 : decode cX0_sum 22 = .ok (.iconst 4, 1) := by decide +kernel
theorem dX0_sum_23 : decode cX0_sum 23 = .ok (.iload_n 2, 1) := by decide +kernel
theorem dX0_sum_24 : decode cX0_sum 24 = .ok (.invokevirtual 76, 3) := by decide +kernel
theorem dX0_sum_27 : decode cX0_sum 27 = .ok (.istore 4, 2) := by decide +kernel
theorem dX0_sum_29 : decode cX0_sum 29 = .ok (.iload_n 1, 1) := by decide +kernel
theorem dX0_sum_30 : decode cX0_sum 30 = .ok (.iload_n 2, 1) := by decide +kernel
theorem dX0_sum_31 : decode cX0_sum 31 = .ok (.iload_n 3, 1) := by decide +kernel
theorem dX0_sum_32 : decode cX0_sum 32 = .ok (.iload 4, 2) := by decide +kernel
theorem dX0_sum_34 : decode cX0_sum 34 = .ok (.iadd, 1) := by decide +kernel
theorem dX0_sum_35 : decode cX0_sum 35 = .ok (.imul, 1) := by decide +kernel
theorem dX0_sum_36 : decode cX0_sum 36 = .ok (.iadd, 1) := by decide +kernel
theorem dX0_sum_37 : decode cX0_sum 37 = .ok (.istore_n 1, 1) := by decide +kernel
theorem dX0_sum_38 : decode cX0_sum 38 = .ok (.iinc 2 1, 3) := by decide +kernel
theorem dX0_sum_41 : decode cX0_sum 41 = .ok (.goto (-33), 3) := by decide +kernel
theorem dX0_sum_44 : decode cX0_sum 44 = .ok (.iload_n 1, 1) := by decide +kernel
theorem dX0_sum_45 : decode cX0_sum 45 = .ok (.ireturn, 1) := by decide +kernel
end
end
section
section
set_option maxRecDepth 100000
theorem dX1_init_0 : decode cX1_init 0 = .ok (.aload_n 0, 1) := by decide +kernel
theorem dX1_init_1 : decode cX1_init 1 = .ok (.invokespecial 1, 3) := by decide +kernel
theorem dX1_init_4 : decode cX1_init 4 = .ok (.aload_n 0, 1) := by decide +kernel
theorem dX1_init_5 : decode cX1_init 5 = .ok (.sipush 256, 3) := by decide +kernel
theorem dX1_init_8 : decode cX1_init 8 = .ok (.newarray .boolean, 2) := by decide +kernel
theorem dX1_init_10 : decode cX1_init 10 = .ok (.putfield 7, 3) := by decide +kernel
theorem dX1_init_13 : decode cX1_init 13 = .ok (.aload_n 0, 1) := by decide +kernel
theorem dX1_init_14 : decode cX1_init 14 = .ok (.iconst 4, 1) := by decide +kernel
theorem dX1_init_15 : decode cX1_init 15 = .ok (.newarray .int, 2) := by decide +kernel
theorem dX1_init_17 : decode cX1_init 17 = .ok (.putfield 13, 3) := by decide +kernel
theorem dX1_init_20 : decode cX1_init 20 = .ok (.aload_n 0, 1) := by decide +kernel
theorem dX1_init_21 : decode cX1_init 21 = .ok (.bipush 64, 2) := by decide +kernel
theorem dX1_init_23 : decode cX1_init 23 = .ok (.newarray .boolean, 2) := by decide +kernel
theorem dX1_init_25 : decode cX1_init 25 = .ok (.putfield 17, 3) := by decide +kernel
theorem dX1_init_28 : decode cX1_init 28 = .ok (.return_, 1) := by decide +kernel
theorem dX1_put_0 : decode cX1_put 0 = .ok (.aload_n 0, 1) := by decide +kernel
theorem dX1_put_1 : decode cX1_put 1 = .ok (.iload_n 1, 1) := by decide +kernel
theorem dX1_put_2 : decode cX1_put 2 = .ok (.iload_n 2, 1) := by decide +kernel
theorem dX1_put_3 : decode cX1_put 3 = .ok (.iload_n 3, 1) := by decide +kernel
theorem dX1_put_4 : decode cX1_put 4 = .ok (.invokevirtual 24, 3) := by decide +kernel
theorem dX1_put_7 : decode cX1_put 7 = .ok (.ifCond .ne 5, 3) := by decide +kernel
theorem dX1_put_10 : decode cX1_put 10 = .ok (.iconst (-1), 1) := by decide +kernel
theorem dX1_put_11 : decode cX1_put 11 = .ok (.ireturn, 1) := by decide +kernel
theorem dX1_put_12 : decode cX1_put 12 = .ok (.aload_n 0, 1) := by decide +kernel
theorem dX1_put_13 : decode cX1_put 13 = .ok (.getfield 7, 3) := by decide +kernel
theorem dX1_put_16 : decode cX1_put 16 = .ok (.bipush 64, 2) := by decide +kernel
theorem dX1_put_18 : decode cX1_put 18 = .ok (.iload_n 1, 1) := by decide +kernel
theorem dX1_put_19 : decode cX1_put 19 = .ok (.imul, 1) := by decide +kernel
theorem dX1_put_20 : decode cX1_put 20 = .ok (.bipush 8, 2) := by decide +kernel
theorem dX1_put_22 : decode cX1_put 22 = .ok (.iload_n 2, 1) := by decide +kernel
theorem dX1_put_23 : decode cX1_put 23 = .ok (.imul, 1) := by decide +kernel
theorem dX1_put_24 : decode cX1_put 24 = .ok (.iadd, 1) := by decide +kernel
theorem dX1_put_25 : decode cX1_put 25 = .ok (.iload_n 3, 1) := by decide +kernel
theorem dX1_put_26 : decode cX1_put 26 = .ok (.iadd, 1) := by decide +kernel
theorem dX1_put_27 : decode cX1_put 27 = .ok (.baload, 1) := by decide +kernel
theorem dX1_put_28 : decode cX1_put 28 = .ok (.ifCond .eq 6, 3) := by decide +kernel
theorem dX1_put_31 : decode cX1_put 31 = .ok (.bipush (-4), 2) := by decide +kernel
theorem dX1_put_33 : decode cX1_put 33 = .ok (.ireturn, 1) := by decide +kernel
theorem dX1_put_34 : decode cX1_put 34 = .ok (.aload_n 0, 1) := by decide +kernel
theorem dX1_put_35 : decode cX1_put 35 = .ok (.getfield 13, 3) := by decide +kernel
theorem dX1_put_38 : decode cX1_put 38 = .ok (.iload_n 1, 1) := by decide +kernel
theorem dX1_put_39 : decode cX1_put 39 = .ok (.iaload, 1) := by decide +kernel
theorem dX1_put_40 : decode cX1_put 40 = .ok (.bipush 10, 2) := by decide +kernel
theorem dX1_put_42 : decode cX1_put 42 = .ok (.if_icmp .ne 6, 3) := by decide +kernel
theorem dX1_put_45 : decode cX1_put 45 = .ok (.bipush (-2), 2) := by decide +kernel
theorem dX1_put_47 : decode cX1_put 47 = .ok (.ireturn, 1) := by decide +kernel
theorem dX1_put_48 : decode cX1_put 48 = .ok (.aload_n 0, 1) := by decide +kernel
theorem dX1_put_49 : decode cX1_put 49 = .ok (.getfield 7, 3) := by decide +kernel
theorem dX1_put_52 : decode cX1_put 52 = .ok (.bipush 64, 2) := by decide +kernel
theorem dX1_put_54 : decode cX1_put 54 = .ok (.iload_n 1, 1) := by decide +kernel
theorem dX1_put_55 : decode cX1_put 55 = .ok (.imul, 1) := by decide +kernel
theorem dX1_put_56 : decode cX1_put 56 = .ok (.bipush 8, 2) := by decide +kernel
theorem dX1_put_58 : decode cX1_put 58 = .ok (.iload_n 2, 1) := by decide +kernel
theorem dX1_put_59 : decode cX1_put 59 = .ok (.imul, 1) := by decide +kernel
theorem dX1_put_60 : decode cX1_put 60 = .ok (.iadd, 1) := by decide +kernel
theorem dX1_put_61 : decode cX1_put 61 = .ok (.iload_n 3, 1) := by decide +kernel
theorem dX1_put_62 : decode cX1_put 62 = .ok (.iadd, 1) := by decide +kernel
theorem dX1_put_63 : decode cX1_put 63 = .ok (.iconst 1, 1) := by decide +kernel
theorem dX1_put_64 : decode cX1_put 64 = .ok (.bastore, 1) := by decide +kernel
theorem dX1_put_65 : decode cX1_put 65 = .ok (.aload_n 0, 1) := by decide +kernel
theorem dX1_put_66 : decode cX1_put 66 = .ok (.getfield 13, 3) := by decide +kernel
theorem dX1_put_69 : decode cX1_put 69 = .ok (.iload_n 1, 1) := by decide +kernel
theorem dX1_put_70 : decode cX1_put 70 = .ok (.dup2, 1) := by decide +kernel
theorem dX1_put_71 : decode cX1_put 71 = .ok (.iaload, 1) := by decide +kernel
theorem dX1_put_72 : decode cX1_put 72 = .ok (.iconst 1, 1) := by decide +kernel
theorem dX1_put_73 : decode cX1_put 73 = .ok (.iadd, 1) := by decide +kernel
theorem dX1_put_74 : decode cX1_put 74 = .ok (.iastore, 1) := by decide +kernel
theorem dX1_put_75 : decode cX1_put 75 = .ok (.aload_n 0, 1) := by decide +kernel
theorem dX1_put_76 : decode cX1_put 76 = .ok (.getfield 13, 3) := by decide +kernel
theorem dX1_put_79 : decode cX1_put 79 = .ok (.iload_n 1, 1) := by decide +kernel
theorem dX1_put_80 : decode cX1_put 80 = .ok (.iaload, 1) := by decide +kernel
theorem dX1_put_81 : decode cX1_put 81 = .ok (.ireturn, 1) := by decide +kernel
theorem dX1_isRow_0 : decode cX1_isRow 0 = .ok (.iload_n 1, 1) := by decide +kernel
theorem dX1_isRow_1 : decode cX1_isRow 1 = .ok (.ifCond .lt 28, 3) := by decide +kernel
theorem dX1_isRow_4 : decode cX1_isRow 4 = .ok (.iload_n 1, 1) := by decide +kernel
theorem dX1_isRow_5 : decode cX1_isRow 5 = .ok (.iconst 3, 1) := by decide +kernel
theorem dX1_isRow_6 : decode cX1_isRow 6 = .ok (.if_icmp .gt 23, 3) := by decide +kernel
theorem dX1_isRow_9 : decode cX1_isRow 9 = .ok (.aload_n 0, 1) := by decide +kernel
theorem dX1_isRow_10 : decode cX1_isRow 10 = .ok (.iload_n 2, 1) := by decide +kernel
theorem dX1_isRow_11 : decode cX1_isRow 11 = .ok (.invokevirtual 20, 3) := by decide +kernel
theorem dX1_isRow_14 : decode cX1_isRow 14 = .ok (.ifCond .eq 15, 3) := by decide +kernel
theorem dX1_isRow_17 : decode cX1_isRow 17 = .ok (.aload_n 0, 1) := by decide +kernel
theorem dX1_isRow_18 : decode cX1_isRow 18 = .ok (.iload_n 3, 1) := by decide +kernel
theorem dX1_isRow_19 : decode cX1_isRow 19 = .ok (.invokevirtual 20, 3) := by decide +kernel
theorem dX1_isRow_22 : decode cX1_isRow 22 = .ok (.ifCond .eq 7, 3) := by decide +kernel
theorem dX1_isRow_25 : decode cX1_isRow 25 = .ok (.iconst 1, 1) := by decide +kernel
theorem dX1_isRow_26 : decode cX1_isRow 26 = .ok (.goto 4, 3) := by decide +kernel
theorem dX1_isRow_29 : decode cX1_isRow 29 = .ok (.iconst 0, 1) := by decide +kernel
theorem dX1_isRow_30 : decode cX1_isRow 30 = .ok (.ireturn, 1) := by decide +kernel
theorem dX1_isValue_0 : decode cX1_isValue 0 = .ok (.iload_n 1, 1) := by decide +kernel
theorem dX1_isValue_1 : decode cX1_isValue 1 = .ok (.ifCond .lt 13, 3) := by decide +kernel
theorem dX1_isValue_4 : decode cX1_isValue 4 = .ok (.iload_n 1, 1) := by decide +kernel
theorem dX1_isValue_5 : decode cX1_isValue 5 = .ok (.bipush 7, 2) := by decide +kernel
theorem dX1_isValue_7 : decode cX1_isValue 7 = .ok (.if_icmp .gt 7, 3) := by decide +kernel
theorem dX1_isValue_10 : decode cX1_isValue 10 = .ok (.iconst 1, 1) := by decide +kernel
theorem dX1_isValue_11 : decode cX1_isValue 11 = .ok (.goto 4, 3) := by decide +kernel
theorem dX1_isValue_14 : decode cX1_isValue 14 = .ok (.iconst 0, 1) := by decide +kernel
theorem dX1_isValue_15 : decode cX1_isValue 15 = .ok (.ireturn, 1) := by decide +kernel
theorem dX1_drop_0 : decode cX1_drop 0 = .ok (.aload_n 0, 1) := by decide +kernel
theorem dX1_drop_1 : decode cX1_drop 1 = .ok (.iload_n 1, 1) := by decide +kernel
theorem dX1_drop_2 : decode cX1_drop 2 = .ok (.iload_n 2, 1) := by decide +kernel
theorem dX1_drop_3 : decode cX1_drop 3 = .ok (.iload_n 3, 1) := by decide +kernel
theorem dX1_drop_4 : decode cX1_drop 4 = .ok (.invokevirtual 24, 3) := by decide +kernel
theorem dX1_drop_7 : decode cX1_drop 7 = .ok (.ifCond .ne 5, 3) := by decide +kernel
theorem dX1_drop_10 : decode cX1_drop 10 = .ok (.iconst (-1), 1) := by decide +kernel
theorem dX1_drop_11 : decode cX1_drop 11 = .ok (.ireturn, 1) := by decide +kernel
theorem dX1_drop_12 : decode cX1_drop 12 = .ok (.aload_n 0, 1) := by decide +kernel
theorem dX1_drop_13 : decode cX1_drop 13 = .ok (.getfield 7, 3) := by decide +kernel
theorem dX1_drop_16 : decode cX1_drop 16 = .ok (.bipush 64, 2) := by decide +kernel
theorem dX1_drop_18 : decode cX1_drop 18 = .ok (.iload_n 1, 1) := by decide +kernel
theorem dX1_drop_19 : decode cX1_drop 19 = .ok (.imul, 1) := by decide +kernel
theorem dX1_drop_20 : decode cX1_drop 20 = .ok (.bipush 8, 2) := by decide +kernel
theorem dX1_drop_22 : decode cX1_drop 22 = .ok (.iload_n 2, 1) := by decide +kernel
theorem dX1_drop_23 : decode cX1_drop 23 = .ok (.imul, 1) := by decide +kernel
theorem dX1_drop_24 : decode cX1_drop 24 = .ok (.iadd, 1) := by decide +kernel
theorem dX1_drop_25 : decode cX1_drop 25 = .ok (.iload_n 3, 1) := by decide +kernel
theorem dX1_drop_26 : decode cX1_drop 26 = .ok (.iadd, 1) := by decide +kernel
theorem dX1_drop_27 : decode cX1_drop 27 = .ok (.baload, 1) := by decide +kernel
theorem dX1_drop_28 : decode cX1_drop 28 = .ok (.ifCond .ne 6, 3) := by decide +kernel
theorem dX1_drop_31 : decode cX1_drop 31 = .ok (.bipush (-4), 2) := by decide +kernel
theorem dX1_drop_33 : decode cX1_drop 33 = .ok (.ireturn, 1) := by decide +kernel
theorem dX1_drop_34 : decode cX1_drop 34 = .ok (.aload_n 0, 1) := by decide +kernel
theorem dX1_drop_35 : decode cX1_drop 35 = .ok (.getfield 7, 3) := by decide +kernel
theorem dX1_drop_38 : decode cX1_drop 38 = .ok (.bipush 64, 2) := by decide +kernel
theorem dX1_drop_40 : decode cX1_drop 40 = .ok (.iload_n 1, 1) := by decide +kernel
theorem dX1_drop_41 : decode cX1_drop 41 = .ok (.imul, 1) := by decide +kernel
theorem dX1_drop_42 : decode cX1_drop 42 = .ok (.bipush 8, 2) := by decide +kernel
theorem dX1_drop_44 : decode cX1_drop 44 = .ok (.iload_n 2, 1) := by decide +kernel
theorem dX1_drop_45 : decode cX1_drop 45 = .ok (.imul, 1) := by decide +kernel
theorem dX1_drop_46 : decode cX1_drop 46 = .ok (.iadd, 1) := by decide +kernel
theorem dX1_drop_47 : decode cX1_drop 47 = .ok (.iload_n 3, 1) := by decide +kernel
theorem dX1_drop_48 : decode cX1_drop 48 = .ok (.iadd, 1) := by decide +kernel
theorem dX1_drop_49 : decode cX1_drop 49 = .ok (.iconst 0, 1) := by decide +kernel
theorem dX1_drop_50 : decode cX1_drop 50 = .ok (.bastore, 1) := by decide +kernel
theorem dX1_drop_51 : decode cX1_drop 51 = .ok (.aload_n 0, 1) := by decide +kernel
theorem dX1_drop_52 : decode cX1_drop 52 = .ok (.getfield 13, 3) := by decide +kernel
theorem dX1_drop_55 : decode cX1_drop 55 = .ok (.iload_n 1, 1) := by decide +kernel
theorem dX1_drop_56 : decode cX1_drop 56 = .ok (.dup2, 1) := by decide +kernel
theorem dX1_drop_57 : decode cX1_drop 57 = .ok (.iaload, 1) := by decide +kernel
theorem dX1_drop_58 : decode cX1_drop 58 = .ok (.iconst 1, 1) := by decide +kernel
theorem dX1_drop_59 : decode cX1_drop 59 = .ok (.isub, 1) := by decide +kernel
theorem dX1_drop_60 : decode cX1_drop 60 = .ok (.iastore, 1) := by decide +kernel
theorem dX1_drop_61 : decode cX1_drop 61 = .ok (.aload_n 0, 1) := by decide +kernel
theorem dX1_drop_62 : decode cX1_drop 62 = .ok (.getfield 13, 3) := by decide +kernel
theorem dX1_drop_65 : decode cX1_drop 65 = .ok (.iload_n 1, 1) := by decide +kernel
theorem dX1_drop_66 : decode cX1_drop 66 = .ok (.iaload, 1) := by decide +kernel
theorem dX1_drop_67 : decode cX1_drop 67 = .ok (.ireturn, 1) := by decide +kernel
theorem dX1_clear_0 : decode cX1_clear 0 = .ok (.iload_n 1, 1) := by decide +kernel
theorem dX1_clear_1 : decode cX1_clear 1 = .ok (.ifCond .lt 8, 3) := by decide +kernel
theorem dX1_clear_4 : decode cX1_clear 4 = .ok (.iload_n 1, 1) := by decide +kernel
theorem dX1_clear_5 : decode cX1_clear 5 = .ok (.iconst 3, 1) := by decide +kernel
theorem dX1_clear_6 : decode cX1_clear 6 = .ok (.if_icmp .le 5, 3) := by decide +kernel
theorem dX1_clear_9 : decode cX1_clear 9 = .ok (.iconst (-1), 1) := by decide +kernel
theorem dX1_clear_10 : decode cX1_clear 10 = .ok (.ireturn, 1) := by decide +kernel
theorem dX1_clear_11 : decode cX1_clear 11 = .ok (.aload_n 0, 1) := by decide +kernel
theorem dX1_clear_12 : decode cX1_clear 12 = .ok (.getfield 13, 3) := by decide +kernel
theorem dX1_clear_15 : decode cX1_clear 15 = .ok (.iload_n 1, 1) := by decide +kernel
theorem dX1_clear_16 : decode cX1_clear 16 = .ok (.iaload, 1) := by decide +kernel
theorem dX1_clear_17 : decode cX1_clear 17 = .ok (.istore_n 2, 1) := by decide +kernel
theorem dX1_clear_18 : decode cX1_clear 18 = .ok (.aload_n 0, 1) := by decide +kernel
theorem dX1_clear_19 : decode cX1_clear 19 = .ok (.getfield 13, 3) := by decide +kernel
theorem dX1_clear_22 : decode cX1_clear 22 = .ok (.iload_n 1, 1) := by decide +kernel
theorem dX1_clear_23 : decode cX1_clear 23 = .ok (.iconst 0, 1) := by decide +kernel
theorem dX1_clear_24 : decode cX1_clear 24 = .ok (.iastore, 1) := by decide +kernel
theorem dX1_clear_25 : decode cX1_clear 25 = .ok (.bipush 64, 2) := by decide +kernel
theorem dX1_clear_27 : decode cX1_clear 27 = .ok (.iload_n 1, 1) := by decide +kernel
theorem dX1_clear_28 : decode cX1_clear 28 = .ok (.imul, 1) := by decide +kernel
theorem dX1_clear_29 : decode cX1_clear 29 = .ok (.istore_n 3, 1) := by decide +kernel
theorem dX1_clear_30 : decode cX1_clear 30 = .ok (.iload_n 3, 1) := by decide +kernel
theorem dX1_clear_31 : decode cX1_clear 31 = .ok (.bipush 64, 2) := by decide +kernel
theorem dX1_clear_33 : decode cX1_clear 33 = .ok (.iload_n 1, 1) := by decide +kernel
theorem dX1_clear_34 : decode cX1_clear 34 = .ok (.imul, 1) := by decide +kernel
theorem dX1_clear_35 : decode cX1_clear 35 = .ok (.bipush 64, 2) := by decide +kernel
theorem dX1_clear_37 : decode cX1_clear 37 = .ok (.iadd, 1) := by decide +kernel
theorem dX1_clear_38 : decode cX1_clear 38 = .ok (.if_icmp .ge 16, 3) := by decide +kernel
theorem dX1_clear_41 : decode cX1_clear 41 = .ok (.aload_n 0, 1) := by decide +kernel
theorem dX1_clear_42 : decode cX1_clear 42 = .ok (.getfield 7, 3) := by decide +kernel
theorem dX1_clear_45 : decode cX1_clear 45 = .ok (.iload_n 3, 1) := by decide +kernel
theorem dX1_clear_46 : decode cX1_clear 46 = .ok (.iconst 0, 1) := by decide +kernel
theorem dX1_clear_47 : decode cX1_clear 47 = .ok (.bastore, 1) := by decide +kernel
theorem dX1_clear_48 : decode cX1_clear 48 = .ok (.iinc 3 1, 3) := by decide +kernel
theorem dX1_clear_51 : decode cX1_clear 51 = .ok (.goto (-21), 3) := by decide +kernel
theorem dX1_clear_54 : decode cX1_clear 54 = .ok (.iload_n 2, 1) := by decide +kernel
theorem dX1_clear_55 : decode cX1_clear 55 = .ok (.ireturn, 1) := by decide +kernel
theorem dX1_rows_0 : decode cX1_rows 0 = .ok (.iload_n 1, 1) := by decide +kernel
theorem dX1_rows_1 : decode cX1_rows 1 = .ok (.ifCond .lt 8, 3) := by decide +kernel
theorem dX1_rows_4 : decode cX1_rows 4 = .ok (.iload_n 1, 1) := by decide +kernel
theorem dX1_rows_5 : decode cX1_rows 5 = .ok (.iconst 3, 1) := by decide +kernel
theorem dX1_rows_6 : decode cX1_rows 6 = .ok (.if_icmp .le 7, 3) := by decide +kernel
theorem dX1_rows_9 : decode cX1_rows 9 = .ok (.iconst (-1), 1) := by decide +kernel
theorem dX1_rows_10 : decode cX1_rows 10 = .ok (.goto 9, 3) := by decide +kernel
theorem dX1_rows_13 : decode cX1_rows 13 = .ok (.aload_n 0, 1) := by decide +kernel
theorem dX1_rows_14 : decode cX1_rows 14 = .ok (.getfield 13, 3) := by decide +kernel
theorem dX1_rows_17 : decode cX1_rows 17 = .ok (.iload_n 1, 1) := by decide +kernel
theorem dX1_rows_18 : decode cX1_rows 18 = .ok (.iaload, 1) := by decide +kernel
theorem dX1_rows_19 : decode cX1_rows 19 = .ok (.ireturn, 1) := by decide +kernel
theorem dX1_count_0 : decode cX1_count 0 = .ok (.iconst 0, 1) := by decide +kernel
theorem dX1_count_1 : decode cX1_count 1 = .ok (.istore_n 1, 1) := by decide +kernel
theorem dX1_count_2 : decode cX1_count 2 = .ok (.iconst 0, 1) := by decide +kernel
theorem dX1_count_3 : decode cX1_count 3 = .ok (.istore_n 2, 1) := by decide +kernel
theorem dX1_count_4 : decode cX1_count 4 = .ok (.iload_n 2, 1) := by decide +kernel
theorem dX1_count_5 : decode cX1_count 5 = .ok (.ldc 35, 2) := by decide +kernel
theorem dX1_count_7 : decode cX1_count 7 = .ok (.if_icmp .ge 25, 3) := by decide +kernel
theorem dX1_count_10 : decode cX1_count 10 = .ok (.aload_n 0, 1) := by decide +kernel
theorem dX1_count_11 : decode cX1_count 11 = .ok (.iload_n 2, 1) := by decide +kernel
theorem dX1_count_12 : decode cX1_count 12 = .ok (.invokevirtual 36, 3) := by decide +kernel
theorem dX1_count_15 : decode cX1_count 15 = .ok (.ifCond .eq 9, 3) := by decide +kernel
theorem dX1_count_18 : decode cX1_count 18 = .ok (.iload_n 1, 1) := by decide +kernel
theorem dX1_count_19 : decode cX1_count 19 = .ok (.iconst 1, 1) := by decide +kernel
theorem dX1_count_20 : decode cX1_count 20 = .ok (.iadd, 1) := by decide +kernel
theorem dX1_count_21 : decode cX1_count 21 = .ok (.goto 4, 3) := by decide +kernel
theorem dX1_count_24 : decode cX1_count 24 = .ok (.iload_n 1, 1) := by decide +kernel
theorem dX1_count_25 : decode cX1_count 25 = .ok (.istore_n 1, 1) := by decide +kernel
theorem dX1_count_26 : decode cX1_count 26 = .ok (.iinc 2 1, 3) := by decide +kernel
theorem dX1_count_29 : decode cX1_count 29 = .ok (.goto (-25), 3) := by decide +kernel
theorem dX1_count_32 : decode cX1_count 32 = .ok (.iload_n 1, 1) := by decide +kernel
theorem dX1_count_33 : decode cX1_count 33 = .ok (.ireturn, 1) := by decide +kernel
theorem dX1_isAnswer_0 : decode cX1_isAnswer 0 = .ok (.aload_n 0, 1) := by decide +kernel
theorem dX1_isAnswer_1 : decode cX1_isAnswer 1 = .ok (.getfield 7, 3) := by decide +kernel
theorem dX1_isAnswer_4 : decode cX1_isAnswer 4 = .ok (.bipush 64, 2) := by decide +kernel
theorem dX1_isAnswer_6 : decode cX1_isAnswer 6 = .ok (.iload_n 1, 1) := by decide +kernel
theorem dX1_isAnswer_7 : decode cX1_isAnswer 7 = .ok (.bipush 6, 2) := by decide +kernel
theorem dX1_isAnswer_9 : decode cX1_isAnswer 9 = .ok (.ishr, 1) := by decide +kernel
theorem dX1_isAnswer_10 : decode cX1_isAnswer 10 = .ok (.bipush 63, 2) := by decide +kernel
theorem dX1_isAnswer_12 : decode cX1_isAnswer 12 = .ok (.iand, 1) := by decide +kernel
theorem dX1_isAnswer_13 : decode cX1_isAnswer 13 = .ok (.iadd, 1) := by decide +kernel
theorem dX1_isAnswer_14 : decode cX1_isAnswer 14 = .ok (.baload, 1) := by decide +kernel
theorem dX1_isAnswer_15 : decode cX1_isAnswer 15 = .ok (.ifCond .eq 51, 3) := by decide +kernel
theorem dX1_isAnswer_18 : decode cX1_isAnswer 18 = .ok (.aload_n 0, 1) := by decide +kernel
theorem dX1_isAnswer_19 : decode cX1_isAnswer 19 = .ok (.getfield 7, 3) := by decide +kernel
theorem dX1_isAnswer_22 : decode cX1_isAnswer 22 = .ok (.iload_n 1, 1) := by decide +kernel
theorem dX1_isAnswer_23 : decode cX1_isAnswer 23 = .ok (.bipush 9, 2) := by decide +kernel
theorem dX1_isAnswer_25 : decode cX1_isAnswer 25 = .ok (.ishr, 1) := by decide +kernel
theorem dX1_isAnswer_26 : decode cX1_isAnswer 26 = .ok (.baload, 1) := by decide +kernel
theorem dX1_isAnswer_27 : decode cX1_isAnswer 27 = .ok (.ifCond .eq 39, 3) := by decide +kernel
theorem dX1_isAnswer_30 : decode cX1_isAnswer 30 = .ok (.aload_n 0, 1) := by decide +kernel
theorem dX1_isAnswer_31 : decode cX1_isAnswer 31 = .ok (.getfield 7, 3) := by decide +kernel
theorem dX1_isAnswer_34 : decode cX1_isAnswer 34 = .ok (.sipush 128, 3) := by decide +kernel
theorem dX1_isAnswer_37 : decode cX1_isAnswer 37 = .ok (.iload_n 1, 1) := by decide +kernel
theorem dX1_isAnswer_38 : decode cX1_isAnswer 38 = .ok (.iconst 3, 1) := by decide +kernel
theorem dX1_isAnswer_39 : decode cX1_isAnswer 39 = .ok (.ishr, 1) := by decide +kernel
theorem dX1_isAnswer_40 : decode cX1_isAnswer 40 = .ok (.bipush 63, 2) := by decide +kernel
theorem dX1_isAnswer_42 : decode cX1_isAnswer 42 = .ok (.iand, 1) := by decide +kernel
theorem dX1_isAnswer_43 : decode cX1_isAnswer 43 = .ok (.iadd, 1) := by decide +kernel
theorem dX1_isAnswer_44 : decode cX1_isAnswer 44 = .ok (.baload, 1) := by decide +kernel
theorem dX1_isAnswer_45 : decode cX1_isAnswer 45 = .ok (.ifCond .eq 21, 3) := by decide +kernel
theorem dX1_isAnswer_48 : decode cX1_isAnswer 48 = .ok (.aload_n 0, 1) := by decide +kernel
theorem dX1_isAnswer_49 : decode cX1_isAnswer 49 = .ok (.getfield 7, 3) := by decide +kernel
theorem dX1_isAnswer_52 : decode cX1_isAnswer 52 = .ok (.aload_n 0, 1) := by decide +kernel
theorem dX1_isAnswer_53 : decode cX1_isAnswer 53 = .ok (.iload_n 1, 1) := by decide +kernel
theorem dX1_isAnswer_54 : decode cX1_isAnswer 54 = .ok (.iconst 3, 1) := by decide +kernel
theorem dX1_isAnswer_55 : decode cX1_isAnswer 55 = .ok (.invokevirtual 32, 3) := by decide +kernel
theorem dX1_isAnswer_58 : decode cX1_isAnswer 58 = .ok (.baload, 1) := by decide +kernel
theorem dX1_isAnswer_59 : decode cX1_isAnswer 59 = .ok (.ifCond .eq 7, 3) := by decide +kernel
theorem dX1_isAnswer_62 : decode cX1_isAnswer 62 = .ok (.iconst 1, 1) := by decide +kernel
theorem dX1_isAnswer_63 : decode cX1_isAnswer 63 = .ok (.goto 4, 3) := by decide +kernel
theorem dX1_isAnswer_66 : decode cX1_isAnswer 66 = .ok (.iconst 0, 1) := by decide +kernel
theorem dX1_isAnswer_67 : decode cX1_isAnswer 67 = .ok (.ireturn, 1) := by decide +kernel
theorem dX1_rowOf_0 : decode cX1_rowOf 0 = .ok (.iload_n 2, 1) := by decide +kernel
theorem dX1_rowOf_1 : decode cX1_rowOf 1 = .ok (.ifCond .ne 7, 3) := by decide +kernel
theorem dX1_rowOf_4 : decode cX1_rowOf 4 = .ok (.iconst 0, 1) := by decide +kernel
theorem dX1_rowOf_5 : decode cX1_rowOf 5 = .ok (.goto 13, 3) := by decide +kernel
theorem dX1_rowOf_8 : decode cX1_rowOf 8 = .ok (.iload_n 2, 1) := by decide +kernel
theorem dX1_rowOf_9 : decode cX1_rowOf 9 = .ok (.iconst 2, 1) := by decide +kernel
theorem dX1_rowOf_10 : decode cX1_rowOf 10 = .ok (.if_icmp .ne 7, 3) := by decide +kernel
theorem dX1_rowOf_13 : decode cX1_rowOf 13 = .ok (.iconst 2, 1) := by decide +kernel
theorem dX1_rowOf_14 : decode cX1_rowOf 14 = .ok (.goto 4, 3) := by decide +kernel
theorem dX1_rowOf_17 : decode cX1_rowOf 17 = .ok (.iconst 1, 1) := by decide +kernel
theorem dX1_rowOf_18 : decode cX1_rowOf 18 = .ok (.istore_n 3, 1) := by decide +kernel
theorem dX1_rowOf_19 : decode cX1_rowOf 19 = .ok (.iload_n 2, 1) := by decide +kernel
theorem dX1_rowOf_20 : decode cX1_rowOf 20 = .ok (.ifCond .ne 7, 3) := by decide +kernel
theorem dX1_rowOf_23 : decode cX1_rowOf 23 = .ok (.iconst 1, 1) := by decide +kernel
theorem dX1_rowOf_24 : decode cX1_rowOf 24 = .ok (.goto 22, 3) := by decide +kernel
theorem dX1_rowOf_27 : decode cX1_rowOf 27 = .ok (.iload_n 2, 1) := by decide +kernel
theorem dX1_rowOf_28 : decode cX1_rowOf 28 = .ok (.iconst 1, 1) := by decide +kernel
theorem dX1_rowOf_29 : decode cX1_rowOf 29 = .ok (.if_icmp .ne 7, 3) := by decide +kernel
theorem dX1_rowOf_32 : decode cX1_rowOf 32 = .ok (.iconst 2, 1) := by decide +kernel
theorem dX1_rowOf_33 : decode cX1_rowOf 33 = .ok (.goto 13, 3) := by decide +kernel
theorem dX1_rowOf_36 : decode cX1_rowOf 36 = .ok (.iload_n 2, 1) := by decide +kernel
theorem dX1_rowOf_37 : decode cX1_rowOf 37 = .ok (.iconst 2, 1) := by decide +kernel
theorem dX1_rowOf_38 : decode cX1_rowOf 38 = .ok (.if_icmp .ne 7, 3) := by decide +kernel
theorem dX1_rowOf_41 : decode cX1_rowOf 41 = .ok (.iconst 3, 1) := by decide +kernel
theorem dX1_rowOf_42 : decode cX1_rowOf 42 = .ok (.goto 4, 3) := by decide +kernel
theorem dX1_rowOf_45 : decode cX1_rowOf 45 = .ok (.iconst 4, 1) := by decide +kernel
theorem dX1_rowOf_46 : decode cX1_rowOf 46 = .ok (.istore 4, 2) := by decide +kernel
theorem dX1_rowOf_48 : decode cX1_rowOf 48 = .ok (.bipush 64, 2) := by decide +kernel
theorem dX1_rowOf_50 : decode cX1_rowOf 50 = .ok (.iload_n 2, 1) := by decide +kernel
theorem dX1_rowOf_51 : decode cX1_rowOf 51 = .ok (.imul, 1) := by decide +kernel
theorem dX1_rowOf_52 : decode cX1_rowOf 52 = .ok (.bipush 8, 2) := by decide +kernel
theorem dX1_rowOf_54 : decode cX1_rowOf 54 = .ok (.aload_n 0, 1) := by decide +kernel
theorem dX1_rowOf_55 : decode cX1_rowOf 55 = .ok (.iload_n 1, 1) := by decide +kernel
theorem dX1_rowOf_56 : decode cX1_rowOf 56 = .ok (.iload_n 3, 1) := by decide +kernel
theorem dX1_rowOf_57 : decode cX1_rowOf 57 = .ok (.invokevirtual 28, 3) := by decide +kernel
theorem dX1_rowOf_60 : decode cX1_rowOf 60 = .ok (.imul, 1) := by decide +kernel
theorem dX1_rowOf_61 : decode cX1_rowOf 61 = .ok (.iadd, 1) := by decide +kernel
theorem dX1_rowOf_62 : decode cX1_rowOf 62 = .ok (.aload_n 0, 1) := by decide +kernel
theorem dX1_rowOf_63 : decode cX1_rowOf 63 = .ok (.iload_n 1, 1) := by decide +kernel
theorem dX1_rowOf_64 : decode cX1_rowOf 64 = .ok (.iload 4, 2) := by decide +kernel
theorem dX1_rowOf_66 : decode cX1_rowOf 66 = .ok (.invokevirtual 28, 3) := by decide +kernel
theorem dX1_rowOf_69 : decode cX1_rowOf 69 = .ok (.iadd, 1) := by decide +kernel
end
end
section
section
set_option maxRecDepth 100000
theorem dX1_rowOf_70 : decode cX1_rowOf 70 = .ok (.ireturn, 1) := by decide +kernel
theorem dX1_valueIn_0 : decode cX1_valueIn 0 = .ok (.iload_n 1, 1) := by decide +kernel
theorem dX1_valueIn_1 : decode cX1_valueIn 1 = .ok (.bipush 12, 2) := by decide +kernel
theorem dX1_valueIn_3 : decode cX1_valueIn 3 = .ok (.iconst 3, 1) := by decide +kernel
theorem dX1_valueIn_4 : decode cX1_valueIn 4 = .ok (.iload_n 2, 1) := by decide +kernel
theorem dX1_valueIn_5 : decode cX1_valueIn 5 = .ok (.imul, 1) := by decide +kernel
theorem dX1_valueIn_6 : decode cX1_valueIn 6 = .ok (.isub, 1) := by decide +kernel
theorem dX1_valueIn_7 : decode cX1_valueIn 7 = .ok (.ishr, 1) := by decide +kernel
theorem dX1_valueIn_8 : decode cX1_valueIn 8 = .ok (.bipush 7, 2) := by decide +kernel
theorem dX1_valueIn_10 : decode cX1_valueIn 10 = .ok (.iand, 1) := by decide +kernel
theorem dX1_valueIn_11 : decode cX1_valueIn 11 = .ok (.ireturn, 1) := by decide +kernel
theorem dX1_answer_0 : decode cX1_answer 0 = .ok (.iconst 0, 1) := by decide +kernel
theorem dX1_answer_1 : decode cX1_answer 1 = .ok (.istore_n 2, 1) := by decide +kernel
theorem dX1_answer_2 : decode cX1_answer 2 = .ok (.iconst 0, 1) := by decide +kernel
theorem dX1_answer_3 : decode cX1_answer 3 = .ok (.istore_n 3, 1) := by decide +kernel
theorem dX1_answer_4 : decode cX1_answer 4 = .ok (.iload_n 3, 1) := by decide +kernel
theorem dX1_answer_5 : decode cX1_answer 5 = .ok (.ldc 35, 2) := by decide +kernel
theorem dX1_answer_7 : decode cX1_answer 7 = .ok (.if_icmp .ge 31, 3) := by decide +kernel
theorem dX1_answer_10 : decode cX1_answer 10 = .ok (.aload_n 0, 1) := by decide +kernel
theorem dX1_answer_11 : decode cX1_answer 11 = .ok (.iload_n 3, 1) := by decide +kernel
theorem dX1_answer_12 : decode cX1_answer 12 = .ok (.invokevirtual 36, 3) := by decide +kernel
theorem dX1_answer_15 : decode cX1_answer 15 = .ok (.ifCond .eq 17, 3) := by decide +kernel
theorem dX1_answer_18 : decode cX1_answer 18 = .ok (.iload_n 2, 1) := by decide +kernel
theorem dX1_answer_19 : decode cX1_answer 19 = .ok (.iload_n 1, 1) := by decide +kernel
theorem dX1_answer_20 : decode cX1_answer 20 = .ok (.if_icmp .ne 9, 3) := by decide +kernel
theorem dX1_answer_23 : decode cX1_answer 23 = .ok (.aload_n 0, 1) := by decide +kernel
theorem dX1_answer_24 : decode cX1_answer 24 = .ok (.iload_n 3, 1) := by decide +kernel
theorem dX1_answer_25 : decode cX1_answer 25 = .ok (.invokevirtual 39, 3) := by decide +kernel
theorem dX1_answer_28 : decode cX1_answer 28 = .ok (.ireturn, 1) := by decide +kernel
theorem dX1_answer_29 : decode cX1_answer 29 = .ok (.iinc 2 1, 3) := by decide +kernel
theorem dX1_answer_32 : decode cX1_answer 32 = .ok (.iinc 3 1, 3) := by decide +kernel
theorem dX1_answer_35 : decode cX1_answer 35 = .ok (.goto (-31), 3) := by decide +kernel
theorem dX1_answer_38 : decode cX1_answer 38 = .ok (.bipush (-4), 2) := by decide +kernel
theorem dX1_answer_40 : decode cX1_answer 40 = .ok (.ireturn, 1) := by decide +kernel
theorem dX1_code_0 : decode cX1_code 0 = .ok (.iconst 0, 1) := by decide +kernel
theorem dX1_code_1 : decode cX1_code 1 = .ok (.istore_n 2, 1) := by decide +kernel
theorem dX1_code_2 : decode cX1_code 2 = .ok (.iconst 4, 1) := by decide +kernel
theorem dX1_code_3 : decode cX1_code 3 = .ok (.istore_n 3, 1) := by decide +kernel
theorem dX1_code_4 : decode cX1_code 4 = .ok (.iload_n 3, 1) := by decide +kernel
theorem dX1_code_5 : decode cX1_code 5 = .ok (.ifCond .lt 21, 3) := by decide +kernel
theorem dX1_code_8 : decode cX1_code 8 = .ok (.bipush 8, 2) := by decide +kernel
theorem dX1_code_10 : decode cX1_code 10 = .ok (.iload_n 2, 1) := by decide +kernel
theorem dX1_code_11 : decode cX1_code 11 = .ok (.imul, 1) := by decide +kernel
theorem dX1_code_12 : decode cX1_code 12 = .ok (.aload_n 0, 1) := by decide +kernel
theorem dX1_code_13 : decode cX1_code 13 = .ok (.iload_n 1, 1) := by decide +kernel
theorem dX1_code_14 : decode cX1_code 14 = .ok (.iload_n 3, 1) := by decide +kernel
theorem dX1_code_15 : decode cX1_code 15 = .ok (.invokevirtual 28, 3) := by decide +kernel
theorem dX1_code_18 : decode cX1_code 18 = .ok (.iadd, 1) := by decide +kernel
theorem dX1_code_19 : decode cX1_code 19 = .ok (.istore_n 2, 1) := by decide +kernel
theorem dX1_code_20 : decode cX1_code 20 = .ok (.iinc 3 (-1), 3) := by decide +kernel
theorem dX1_code_23 : decode cX1_code 23 = .ok (.goto (-19), 3) := by decide +kernel
theorem dX1_code_26 : decode cX1_code 26 = .ok (.iload_n 2, 1) := by decide +kernel
theorem dX1_code_27 : decode cX1_code 27 = .ok (.ireturn, 1) := by decide +kernel
theorem dX1_has_0 : decode cX1_has 0 = .ok (.aload_n 0, 1) := by decide +kernel
theorem dX1_has_1 : decode cX1_has 1 = .ok (.iload_n 1, 1) := by decide +kernel
theorem dX1_has_2 : decode cX1_has 2 = .ok (.invokevirtual 43, 3) := by decide +kernel
theorem dX1_has_5 : decode cX1_has 5 = .ok (.ifCond .ne 5, 3) := by decide +kernel
theorem dX1_has_8 : decode cX1_has 8 = .ok (.iconst 0, 1) := by decide +kernel
theorem dX1_has_9 : decode cX1_has 9 = .ok (.ireturn, 1) := by decide +kernel
theorem dX1_has_10 : decode cX1_has 10 = .ok (.aload_n 0, 1) := by decide +kernel
theorem dX1_has_11 : decode cX1_has 11 = .ok (.iload_n 1, 1) := by decide +kernel
theorem dX1_has_12 : decode cX1_has 12 = .ok (.invokevirtual 46, 3) := by decide +kernel
theorem dX1_has_15 : decode cX1_has 15 = .ok (.istore_n 2, 1) := by decide +kernel
theorem dX1_has_16 : decode cX1_has 16 = .ok (.aload_n 0, 1) := by decide +kernel
theorem dX1_has_17 : decode cX1_has 17 = .ok (.iload_n 2, 1) := by decide +kernel
theorem dX1_has_18 : decode cX1_has 18 = .ok (.invokevirtual 36, 3) := by decide +kernel
theorem dX1_has_21 : decode cX1_has 21 = .ok (.ireturn, 1) := by decide +kernel
theorem dX1_isCode_0 : decode cX1_isCode 0 = .ok (.iload_n 1, 1) := by decide +kernel
theorem dX1_isCode_1 : decode cX1_isCode 1 = .ok (.ifCond .lt 14, 3) := by decide +kernel
theorem dX1_isCode_4 : decode cX1_isCode 4 = .ok (.iload_n 1, 1) := by decide +kernel
theorem dX1_isCode_5 : decode cX1_isCode 5 = .ok (.sipush 32767, 3) := by decide +kernel
theorem dX1_isCode_8 : decode cX1_isCode 8 = .ok (.if_icmp .gt 7, 3) := by decide +kernel
theorem dX1_isCode_11 : decode cX1_isCode 11 = .ok (.iconst 1, 1) := by decide +kernel
theorem dX1_isCode_12 : decode cX1_isCode 12 = .ok (.goto 4, 3) := by decide +kernel
theorem dX1_isCode_15 : decode cX1_isCode 15 = .ok (.iconst 0, 1) := by decide +kernel
theorem dX1_isCode_16 : decode cX1_isCode 16 = .ok (.ireturn, 1) := by decide +kernel
theorem dX1_number_0 : decode cX1_number 0 = .ok (.iconst 0, 1) := by decide +kernel
theorem dX1_number_1 : decode cX1_number 1 = .ok (.istore_n 2, 1) := by decide +kernel
theorem dX1_number_2 : decode cX1_number 2 = .ok (.iconst 0, 1) := by decide +kernel
theorem dX1_number_3 : decode cX1_number 3 = .ok (.istore_n 3, 1) := by decide +kernel
theorem dX1_number_4 : decode cX1_number 4 = .ok (.iload_n 3, 1) := by decide +kernel
theorem dX1_number_5 : decode cX1_number 5 = .ok (.iconst 5, 1) := by decide +kernel
theorem dX1_number_6 : decode cX1_number 6 = .ok (.if_icmp .ge 23, 3) := by decide +kernel
theorem dX1_number_9 : decode cX1_number 9 = .ok (.bipush 8, 2) := by decide +kernel
theorem dX1_number_11 : decode cX1_number 11 = .ok (.iload_n 2, 1) := by decide +kernel
theorem dX1_number_12 : decode cX1_number 12 = .ok (.imul, 1) := by decide +kernel
theorem dX1_number_13 : decode cX1_number 13 = .ok (.iload_n 1, 1) := by decide +kernel
theorem dX1_number_14 : decode cX1_number 14 = .ok (.iconst 3, 1) := by decide +kernel
theorem dX1_number_15 : decode cX1_number 15 = .ok (.iload_n 3, 1) := by decide +kernel
theorem dX1_number_16 : decode cX1_number 16 = .ok (.imul, 1) := by decide +kernel
theorem dX1_number_17 : decode cX1_number 17 = .ok (.ishr, 1) := by decide +kernel
theorem dX1_number_18 : decode cX1_number 18 = .ok (.bipush 7, 2) := by decide +kernel
theorem dX1_number_20 : decode cX1_number 20 = .ok (.iand, 1) := by decide +kernel
theorem dX1_number_21 : decode cX1_number 21 = .ok (.iadd, 1) := by decide +kernel
theorem dX1_number_22 : decode cX1_number 22 = .ok (.istore_n 2, 1) := by decide +kernel
theorem dX1_number_23 : decode cX1_number 23 = .ok (.iinc 3 1, 3) := by decide +kernel
theorem dX1_number_26 : decode cX1_number 26 = .ok (.goto (-22), 3) := by decide +kernel
theorem dX1_number_29 : decode cX1_number 29 = .ok (.iload_n 2, 1) := by decide +kernel
theorem dX1_number_30 : decode cX1_number 30 = .ok (.ireturn, 1) := by decide +kernel
theorem dX1_rank_0 : decode cX1_rank 0 = .ok (.aload_n 0, 1) := by decide +kernel
theorem dX1_rank_1 : decode cX1_rank 1 = .ok (.iload_n 1, 1) := by decide +kernel
theorem dX1_rank_2 : decode cX1_rank 2 = .ok (.invokevirtual 43, 3) := by decide +kernel
theorem dX1_rank_5 : decode cX1_rank 5 = .ok (.ifCond .ne 5, 3) := by decide +kernel
theorem dX1_rank_8 : decode cX1_rank 8 = .ok (.iconst (-1), 1) := by decide +kernel
theorem dX1_rank_9 : decode cX1_rank 9 = .ok (.ireturn, 1) := by decide +kernel
theorem dX1_rank_10 : decode cX1_rank 10 = .ok (.aload_n 0, 1) := by decide +kernel
theorem dX1_rank_11 : decode cX1_rank 11 = .ok (.iload_n 1, 1) := by decide +kernel
theorem dX1_rank_12 : decode cX1_rank 12 = .ok (.invokevirtual 46, 3) := by decide +kernel
theorem dX1_rank_15 : decode cX1_rank 15 = .ok (.istore_n 2, 1) := by decide +kernel
theorem dX1_rank_16 : decode cX1_rank 16 = .ok (.iconst 0, 1) := by decide +kernel
theorem dX1_rank_17 : decode cX1_rank 17 = .ok (.istore_n 3, 1) := by decide +kernel
theorem dX1_rank_18 : decode cX1_rank 18 = .ok (.iconst 0, 1) := by decide +kernel
theorem dX1_rank_19 : decode cX1_rank 19 = .ok (.istore 4, 2) := by decide +kernel
theorem dX1_rank_21 : decode cX1_rank 21 = .ok (.iload 4, 2) := by decide +kernel
theorem dX1_rank_23 : decode cX1_rank 23 = .ok (.iload_n 2, 1) := by decide +kernel
theorem dX1_rank_24 : decode cX1_rank 24 = .ok (.if_icmp .ge 26, 3) := by decide +kernel
theorem dX1_rank_27 : decode cX1_rank 27 = .ok (.aload_n 0, 1) := by decide +kernel
theorem dX1_rank_28 : decode cX1_rank 28 = .ok (.iload 4, 2) := by decide +kernel
theorem dX1_rank_30 : decode cX1_rank 30 = .ok (.invokevirtual 36, 3) := by decide +kernel
theorem dX1_rank_33 : decode cX1_rank 33 = .ok (.ifCond .eq 9, 3) := by decide +kernel
theorem dX1_rank_36 : decode cX1_rank 36 = .ok (.iload_n 3, 1) := by decide +kernel
theorem dX1_rank_37 : decode cX1_rank 37 = .ok (.iconst 1, 1) := by decide +kernel
theorem dX1_rank_38 : decode cX1_rank 38 = .ok (.iadd, 1) := by decide +kernel
theorem dX1_rank_39 : decode cX1_rank 39 = .ok (.goto 4, 3) := by decide +kernel
theorem dX1_rank_42 : decode cX1_rank 42 = .ok (.iload_n 3, 1) := by decide +kernel
theorem dX1_rank_43 : decode cX1_rank 43 = .ok (.istore_n 3, 1) := by decide +kernel
theorem dX1_rank_44 : decode cX1_rank 44 = .ok (.iinc 4 1, 3) := by decide +kernel
theorem dX1_rank_47 : decode cX1_rank 47 = .ok (.goto (-26), 3) := by decide +kernel
theorem dX1_rank_50 : decode cX1_rank 50 = .ok (.iload_n 3, 1) := by decide +kernel
theorem dX1_rank_51 : decode cX1_rank 51 = .ok (.ireturn, 1) := by decide +kernel
theorem dX1_useful_0 : decode cX1_useful 0 = .ok (.iload_n 1, 1) := by decide +kernel
theorem dX1_useful_1 : decode cX1_useful 1 = .ok (.ifCond .lt 8, 3) := by decide +kernel
theorem dX1_useful_4 : decode cX1_useful 4 = .ok (.iload_n 1, 1) := by decide +kernel
theorem dX1_useful_5 : decode cX1_useful 5 = .ok (.iconst 3, 1) := by decide +kernel
theorem dX1_useful_6 : decode cX1_useful 6 = .ok (.if_icmp .le 5, 3) := by decide +kernel
theorem dX1_useful_9 : decode cX1_useful 9 = .ok (.iconst (-1), 1) := by decide +kernel
theorem dX1_useful_10 : decode cX1_useful 10 = .ok (.ireturn, 1) := by decide +kernel
theorem dX1_useful_11 : decode cX1_useful 11 = .ok (.iconst 0, 1) := by decide +kernel
theorem dX1_useful_12 : decode cX1_useful 12 = .ok (.istore_n 2, 1) := by decide +kernel
theorem dX1_useful_13 : decode cX1_useful 13 = .ok (.bipush 64, 2) := by decide +kernel
theorem dX1_useful_15 : decode cX1_useful 15 = .ok (.iload_n 1, 1) := by decide +kernel
theorem dX1_useful_16 : decode cX1_useful 16 = .ok (.imul, 1) := by decide +kernel
theorem dX1_useful_17 : decode cX1_useful 17 = .ok (.istore_n 3, 1) := by decide +kernel
theorem dX1_useful_18 : decode cX1_useful 18 = .ok (.iload_n 3, 1) := by decide +kernel
theorem dX1_useful_19 : decode cX1_useful 19 = .ok (.bipush 64, 2) := by decide +kernel
theorem dX1_useful_21 : decode cX1_useful 21 = .ok (.iload_n 1, 1) := by decide +kernel
theorem dX1_useful_22 : decode cX1_useful 22 = .ok (.imul, 1) := by decide +kernel
theorem dX1_useful_23 : decode cX1_useful 23 = .ok (.bipush 64, 2) := by decide +kernel
theorem dX1_useful_25 : decode cX1_useful 25 = .ok (.iadd, 1) := by decide +kernel
theorem dX1_useful_26 : decode cX1_useful 26 = .ok (.if_icmp .ge 29, 3) := by decide +kernel
theorem dX1_useful_29 : decode cX1_useful 29 = .ok (.aload_n 0, 1) := by decide +kernel
theorem dX1_useful_30 : decode cX1_useful 30 = .ok (.getfield 7, 3) := by decide +kernel
theorem dX1_useful_33 : decode cX1_useful 33 = .ok (.iload_n 3, 1) := by decide +kernel
theorem dX1_useful_34 : decode cX1_useful 34 = .ok (.baload, 1) := by decide +kernel
theorem dX1_useful_35 : decode cX1_useful 35 = .ok (.ifCond .eq 14, 3) := by decide +kernel
theorem dX1_useful_38 : decode cX1_useful 38 = .ok (.aload_n 0, 1) := by decide +kernel
theorem dX1_useful_39 : decode cX1_useful 39 = .ok (.iload_n 3, 1) := by decide +kernel
theorem dX1_useful_40 : decode cX1_useful 40 = .ok (.invokevirtual 49, 3) := by decide +kernel
theorem dX1_useful_43 : decode cX1_useful 43 = .ok (.ifCond .le 6, 3) := by decide +kernel
theorem dX1_useful_46 : decode cX1_useful 46 = .ok (.iinc 2 1, 3) := by decide +kernel
theorem dX1_useful_49 : decode cX1_useful 49 = .ok (.iinc 3 1, 3) := by decide +kernel
theorem dX1_useful_52 : decode cX1_useful 52 = .ok (.goto (-34), 3) := by decide +kernel
theorem dX1_useful_55 : decode cX1_useful 55 = .ok (.iload_n 2, 1) := by decide +kernel
theorem dX1_useful_56 : decode cX1_useful 56 = .ok (.ireturn, 1) := by decide +kernel
theorem dX1_countWith_0 : decode cX1_countWith 0 = .ok (.iconst 0, 1) := by decide +kernel
theorem dX1_countWith_1 : decode cX1_countWith 1 = .ok (.istore_n 2, 1) := by decide +kernel
theorem dX1_countWith_2 : decode cX1_countWith 2 = .ok (.iconst 0, 1) := by decide +kernel
theorem dX1_countWith_3 : decode cX1_countWith 3 = .ok (.istore_n 3, 1) := by decide +kernel
theorem dX1_countWith_4 : decode cX1_countWith 4 = .ok (.iload_n 3, 1) := by decide +kernel
theorem dX1_countWith_5 : decode cX1_countWith 5 = .ok (.ldc 35, 2) := by decide +kernel
theorem dX1_countWith_7 : decode cX1_countWith 7 = .ok (.if_icmp .ge 38, 3) := by decide +kernel
theorem dX1_countWith_10 : decode cX1_countWith 10 = .ok (.aload_n 0, 1) := by decide +kernel
theorem dX1_countWith_11 : decode cX1_countWith 11 = .ok (.iload_n 3, 1) := by decide +kernel
theorem dX1_countWith_12 : decode cX1_countWith 12 = .ok (.invokevirtual 36, 3) := by decide +kernel
theorem dX1_countWith_15 : decode cX1_countWith 15 = .ok (.ifCond .eq 22, 3) := by decide +kernel
theorem dX1_countWith_18 : decode cX1_countWith 18 = .ok (.aload_n 0, 1) := by decide +kernel
theorem dX1_countWith_19 : decode cX1_countWith 19 = .ok (.iload_n 3, 1) := by decide +kernel
theorem dX1_countWith_20 : decode cX1_countWith 20 = .ok (.iload_n 1, 1) := by decide +kernel
theorem dX1_countWith_21 : decode cX1_countWith 21 = .ok (.bipush 64, 2) := by decide +kernel
theorem dX1_countWith_23 : decode cX1_countWith 23 = .ok (.idiv, 1) := by decide +kernel
theorem dX1_countWith_24 : decode cX1_countWith 24 = .ok (.invokevirtual 32, 3) := by decide +kernel
theorem dX1_countWith_27 : decode cX1_countWith 27 = .ok (.iload_n 1, 1) := by decide +kernel
theorem dX1_countWith_28 : decode cX1_countWith 28 = .ok (.if_icmp .ne 9, 3) := by decide +kernel
theorem dX1_countWith_31 : decode cX1_countWith 31 = .ok (.iload_n 2, 1) := by decide +kernel
theorem dX1_countWith_32 : decode cX1_countWith 32 = .ok (.iconst 1, 1) := by decide +kernel
theorem dX1_countWith_33 : decode cX1_countWith 33 = .ok (.iadd, 1) := by decide +kernel
theorem dX1_countWith_34 : decode cX1_countWith 34 = .ok (.goto 4, 3) := by decide +kernel
theorem dX1_countWith_37 : decode cX1_countWith 37 = .ok (.iload_n 2, 1) := by decide +kernel
theorem dX1_countWith_38 : decode cX1_countWith 38 = .ok (.istore_n 2, 1) := by decide +kernel
theorem dX1_countWith_39 : decode cX1_countWith 39 = .ok (.iinc 3 1, 3) := by decide +kernel
theorem dX1_countWith_42 : decode cX1_countWith 42 = .ok (.goto (-38), 3) := by decide +kernel
theorem dX1_countWith_45 : decode cX1_countWith 45 = .ok (.iload_n 2, 1) := by decide +kernel
theorem dX1_countWith_46 : decode cX1_countWith 46 = .ok (.ireturn, 1) := by decide +kernel
theorem dX1_weight_0 : decode cX1_weight 0 = .ok (.aload_n 0, 1) := by decide +kernel
theorem dX1_weight_1 : decode cX1_weight 1 = .ok (.iload_n 1, 1) := by decide +kernel
theorem dX1_weight_2 : decode cX1_weight 2 = .ok (.iload_n 2, 1) := by decide +kernel
theorem dX1_weight_3 : decode cX1_weight 3 = .ok (.iload_n 3, 1) := by decide +kernel
theorem dX1_weight_4 : decode cX1_weight 4 = .ok (.invokevirtual 24, 3) := by decide +kernel
theorem dX1_weight_7 : decode cX1_weight 7 = .ok (.ifCond .eq 21, 3) := by decide +kernel
theorem dX1_weight_10 : decode cX1_weight 10 = .ok (.aload_n 0, 1) := by decide +kernel
theorem dX1_weight_11 : decode cX1_weight 11 = .ok (.bipush 64, 2) := by decide +kernel
theorem dX1_weight_13 : decode cX1_weight 13 = .ok (.iload_n 1, 1) := by decide +kernel
theorem dX1_weight_14 : decode cX1_weight 14 = .ok (.imul, 1) := by decide +kernel
theorem dX1_weight_15 : decode cX1_weight 15 = .ok (.bipush 8, 2) := by decide +kernel
theorem dX1_weight_17 : decode cX1_weight 17 = .ok (.iload_n 2, 1) := by decide +kernel
theorem dX1_weight_18 : decode cX1_weight 18 = .ok (.imul, 1) := by decide +kernel
theorem dX1_weight_19 : decode cX1_weight 19 = .ok (.iadd, 1) := by decide +kernel
theorem dX1_weight_20 : decode cX1_weight 20 = .ok (.iload_n 3, 1) := by decide +kernel
theorem dX1_weight_21 : decode cX1_weight 21 = .ok (.iadd, 1) := by decide +kernel
theorem dX1_weight_22 : decode cX1_weight 22 = .ok (.invokevirtual 49, 3) := by decide +kernel
theorem dX1_weight_25 : decode cX1_weight 25 = .ok (.goto 4, 3) := by decide +kernel
theorem dX1_weight_28 : decode cX1_weight 28 = .ok (.iconst 0, 1) := by decide +kernel
theorem dX1_weight_29 : decode cX1_weight 29 = .ok (.ireturn, 1) := by decide +kernel
theorem dX1_gain_0 : decode cX1_gain 0 = .ok (.aload_n 0, 1) := by decide +kernel
theorem dX1_gain_1 : decode cX1_gain 1 = .ok (.iload_n 1, 1) := by decide +kernel
theorem dX1_gain_2 : decode cX1_gain 2 = .ok (.iload_n 2, 1) := by decide +kernel
theorem dX1_gain_3 : decode cX1_gain 3 = .ok (.iload_n 3, 1) := by decide +kernel
theorem dX1_gain_4 : decode cX1_gain 4 = .ok (.invokevirtual 24, 3) := by decide +kernel
theorem dX1_gain_7 : decode cX1_gain 7 = .ok (.ifCond .ne 5, 3) := by decide +kernel
theorem dX1_gain_10 : decode cX1_gain 10 = .ok (.iconst (-1), 1) := by decide +kernel
theorem dX1_gain_11 : decode cX1_gain 11 = .ok (.ireturn, 1) := by decide +kernel
theorem dX1_gain_12 : decode cX1_gain 12 = .ok (.bipush 64, 2) := by decide +kernel
theorem dX1_gain_14 : decode cX1_gain 14 = .ok (.iload_n 1, 1) := by decide +kernel
theorem dX1_gain_15 : decode cX1_gain 15 = .ok (.imul, 1) := by decide +kernel
theorem dX1_gain_16 : decode cX1_gain 16 = .ok (.bipush 8, 2) := by decide +kernel
theorem dX1_gain_18 : decode cX1_gain 18 = .ok (.iload_n 2, 1) := by decide +kernel
theorem dX1_gain_19 : decode cX1_gain 19 = .ok (.imul, 1) := by decide +kernel
theorem dX1_gain_20 : decode cX1_gain 20 = .ok (.iadd, 1) := by decide +kernel
theorem dX1_gain_21 : decode cX1_gain 21 = .ok (.iload_n 3, 1) := by decide +kernel
theorem dX1_gain_22 : decode cX1_gain 22 = .ok (.iadd, 1) := by decide +kernel
theorem dX1_gain_23 : decode cX1_gain 23 = .ok (.istore 4, 2) := by decide +kernel
theorem dX1_gain_25 : decode cX1_gain 25 = .ok (.aload_n 0, 1) := by decide +kernel
theorem dX1_gain_26 : decode cX1_gain 26 = .ok (.getfield 7, 3) := by decide +kernel
theorem dX1_gain_29 : decode cX1_gain 29 = .ok (.iload 4, 2) := by decide +kernel
theorem dX1_gain_31 : decode cX1_gain 31 = .ok (.baload, 1) := by decide +kernel
theorem dX1_gain_32 : decode cX1_gain 32 = .ok (.ifCond .eq 5, 3) := by decide +kernel
theorem dX1_gain_35 : decode cX1_gain 35 = .ok (.iconst 0, 1) := by decide +kernel
theorem dX1_gain_36 : decode cX1_gain 36 = .ok (.ireturn, 1) := by decide +kernel
theorem dX1_gain_37 : decode cX1_gain 37 = .ok (.aload_n 0, 1) := by decide +kernel
theorem dX1_gain_38 : decode cX1_gain 38 = .ok (.getfield 7, 3) := by decide +kernel
theorem dX1_gain_41 : decode cX1_gain 41 = .ok (.iload 4, 2) := by decide +kernel
theorem dX1_gain_43 : decode cX1_gain 43 = .ok (.iconst 1, 1) := by decide +kernel
theorem dX1_gain_44 : decode cX1_gain 44 = .ok (.bastore, 1) := by decide +kernel
theorem dX1_gain_45 : decode cX1_gain 45 = .ok (.aload_n 0, 1) := by decide +kernel
theorem dX1_gain_46 : decode cX1_gain 46 = .ok (.iload 4, 2) := by decide +kernel
theorem dX1_gain_48 : decode cX1_gain 48 = .ok (.invokevirtual 49, 3) := by decide +kernel
theorem dX1_gain_51 : decode cX1_gain 51 = .ok (.istore 5, 2) := by decide +kernel
theorem dX1_gain_53 : decode cX1_gain 53 = .ok (.aload_n 0, 1) := by decide +kernel
theorem dX1_gain_54 : decode cX1_gain 54 = .ok (.getfield 7, 3) := by decide +kernel
theorem dX1_gain_57 : decode cX1_gain 57 = .ok (.iload 4, 2) := by decide +kernel
theorem dX1_gain_59 : decode cX1_gain 59 = .ok (.iconst 0, 1) := by decide +kernel
theorem dX1_gain_60 : decode cX1_gain 60 = .ok (.bastore, 1) := by decide +kernel
theorem dX1_gain_61 : decode cX1_gain 61 = .ok (.iload 5, 2) := by decide +kernel
theorem dX1_gain_63 : decode cX1_gain 63 = .ok (.ireturn, 1) := by decide +kernel
theorem dX1_values_0 : decode cX1_values 0 = .ok (.iload_n 1, 1) := by decide +kernel
theorem dX1_values_1 : decode cX1_values 1 = .ok (.ifCond .lt 8, 3) := by decide +kernel
theorem dX1_values_4 : decode cX1_values 4 = .ok (.iload_n 1, 1) := by decide +kernel
theorem dX1_values_5 : decode cX1_values 5 = .ok (.iconst 4, 1) := by decide +kernel
theorem dX1_values_6 : decode cX1_values 6 = .ok (.if_icmp .le 5, 3) := by decide +kernel
theorem dX1_values_9 : decode cX1_values 9 = .ok (.iconst (-1), 1) := by decide +kernel
theorem dX1_values_10 : decode cX1_values 10 = .ok (.ireturn, 1) := by decide +kernel
theorem dX1_values_11 : decode cX1_values 11 = .ok (.iconst 0, 1) := by decide +kernel
theorem dX1_values_12 : decode cX1_values 12 = .ok (.istore_n 2, 1) := by decide +kernel
theorem dX1_values_13 : decode cX1_values 13 = .ok (.iconst 0, 1) := by decide +kernel
theorem dX1_values_14 : decode cX1_values 14 = .ok (.istore_n 3, 1) := by decide +kernel
theorem dX1_values_15 : decode cX1_values 15 = .ok (.iload_n 3, 1) := by decide +kernel
theorem dX1_values_16 : decode cX1_values 16 = .ok (.bipush 8, 2) := by decide +kernel
theorem dX1_values_18 : decode cX1_values 18 = .ok (.if_icmp .ge 26, 3) := by decide +kernel
theorem dX1_values_21 : decode cX1_values 21 = .ok (.aload_n 0, 1) := by decide +kernel
theorem dX1_values_22 : decode cX1_values 22 = .ok (.iload_n 1, 1) := by decide +kernel
theorem dX1_values_23 : decode cX1_values 23 = .ok (.iload_n 3, 1) := by decide +kernel
theorem dX1_values_24 : decode cX1_values 24 = .ok (.invokevirtual 52, 3) := by decide +kernel
theorem dX1_values_27 : decode cX1_values 27 = .ok (.ifCond .le 9, 3) := by decide +kernel
theorem dX1_values_30 : decode cX1_values 30 = .ok (.iload_n 2, 1) := by decide +kernel
theorem dX1_values_31 : decode cX1_values 31 = .ok (.iconst 1, 1) := by decide +kernel
theorem dX1_values_32 : decode cX1_values 32 = .ok (.iadd, 1) := by decide +kernel
theorem dX1_values_33 : decode cX1_values 33 = .ok (.goto 4, 3) := by decide +kernel
theorem dX1_values_36 : decode cX1_values 36 = .ok (.iload_n 2, 1) := by decide +kernel
theorem dX1_values_37 : decode cX1_values 37 = .ok (.istore_n 2, 1) := by decide +kernel
theorem dX1_values_38 : decode cX1_values 38 = .ok (.iinc 3 1, 3) := by decide +kernel
theorem dX1_values_41 : decode cX1_values 41 = .ok (.goto (-26), 3) := by decide +kernel
theorem dX1_values_44 : decode cX1_values 44 = .ok (.iload_n 2, 1) := by decide +kernel
theorem dX1_values_45 : decode cX1_values 45 = .ok (.ireturn, 1) := by decide +kernel
theorem dX1_countValue_0 : decode cX1_countValue 0 = .ok (.iconst 0, 1) := by decide +kernel
theorem dX1_countValue_1 : decode cX1_countValue 1 = .ok (.istore_n 3, 1) := by decide +kernel
theorem dX1_countValue_2 : decode cX1_countValue 2 = .ok (.iconst 0, 1) := by decide +kernel
theorem dX1_countValue_3 : decode cX1_countValue 3 = .ok (.istore 4, 2) := by decide +kernel
theorem dX1_countValue_5 : decode cX1_countValue 5 = .ok (.iload 4, 2) := by decide +kernel
theorem dX1_countValue_7 : decode cX1_countValue 7 = .ok (.ldc 35, 2) := by decide +kernel
theorem dX1_countValue_9 : decode cX1_countValue 9 = .ok (.if_icmp .ge 37, 3) := by decide +kernel
theorem dX1_countValue_12 : decode cX1_countValue 12 = .ok (.aload_n 0, 1) := by decide +kernel
theorem dX1_countValue_13 : decode cX1_countValue 13 = .ok (.iload 4, 2) := by decide +kernel
theorem dX1_countValue_15 : decode cX1_countValue 15 = .ok (.iload_n 1, 1) := by decide +kernel
theorem dX1_countValue_16 : decode cX1_countValue 16 = .ok (.invokevirtual 28, 3) := by decide +kernel
theorem dX1_countValue_19 : decode cX1_countValue 19 = .ok (.iload_n 2, 1) := by decide +kernel
theorem dX1_countValue_20 : decode cX1_countValue 20 = .ok (.if_icmp .ne 18, 3) := by decide +kernel
theorem dX1_countValue_23 : decode cX1_countValue 23 = .ok (.aload_n 0, 1) := by decide +kernel
theorem dX1_countValue_24 : decode cX1_countValue 24 = .ok (.iload 4, 2) := by decide +kernel
theorem dX1_countValue_26 : decode cX1_countValue 26 = .ok (.invokevirtual 36, 3) := by decide +kernel
theorem dX1_countValue_29 : decode cX1_countValue 29 = .ok (.ifCond .eq 9, 3) := by decide +kernel
end
end
section
section
set_option maxRecDepth 100000
theorem dX1_countValue_32 : decode cX1_countValue 32 = .ok (.iload_n 3, 1) := by decide +kernel
theorem dX1_countValue_33 : decode cX1_countValue 33 = .ok (.iconst 1, 1) := by decide +kernel
theorem dX1_countValue_34 : decode cX1_countValue 34 = .ok (.iadd, 1) := by decide +kernel
theorem dX1_countValue_35 : decode cX1_countValue 35 = .ok (.goto 4, 3) := by decide +kernel
theorem dX1_countValue_38 : decode cX1_countValue 38 = .ok (.iload_n 3, 1) := by decide +kernel
theorem dX1_countValue_39 : decode cX1_countValue 39 = .ok (.istore_n 3, 1) := by decide +kernel
theorem dX1_countValue_40 : decode cX1_countValue 40 = .ok (.iinc 4 1, 3) := by decide +kernel
theorem dX1_countValue_43 : decode cX1_countValue 43 = .ok (.goto (-38), 3) := by decide +kernel
theorem dX1_countValue_46 : decode cX1_countValue 46 = .ok (.iload_n 3, 1) := by decide +kernel
theorem dX1_countValue_47 : decode cX1_countValue 47 = .ok (.ireturn, 1) := by decide +kernel
theorem dX1_with_0 : decode cX1_with 0 = .ok (.iload_n 1, 1) := by decide +kernel
theorem dX1_with_1 : decode cX1_with 1 = .ok (.ifCond .lt 16, 3) := by decide +kernel
theorem dX1_with_4 : decode cX1_with 4 = .ok (.iload_n 1, 1) := by decide +kernel
theorem dX1_with_5 : decode cX1_with 5 = .ok (.iconst 4, 1) := by decide +kernel
theorem dX1_with_6 : decode cX1_with 6 = .ok (.if_icmp .gt 11, 3) := by decide +kernel
theorem dX1_with_9 : decode cX1_with 9 = .ok (.aload_n 0, 1) := by decide +kernel
theorem dX1_with_10 : decode cX1_with 10 = .ok (.iload_n 2, 1) := by decide +kernel
theorem dX1_with_11 : decode cX1_with 11 = .ok (.invokevirtual 20, 3) := by decide +kernel
theorem dX1_with_14 : decode cX1_with 14 = .ok (.ifCond .ne 7, 3) := by decide +kernel
theorem dX1_with_17 : decode cX1_with 17 = .ok (.iconst (-1), 1) := by decide +kernel
theorem dX1_with_18 : decode cX1_with 18 = .ok (.goto 9, 3) := by decide +kernel
theorem dX1_with_21 : decode cX1_with 21 = .ok (.aload_n 0, 1) := by decide +kernel
theorem dX1_with_22 : decode cX1_with 22 = .ok (.iload_n 1, 1) := by decide +kernel
theorem dX1_with_23 : decode cX1_with 23 = .ok (.iload_n 2, 1) := by decide +kernel
theorem dX1_with_24 : decode cX1_with 24 = .ok (.invokevirtual 52, 3) := by decide +kernel
theorem dX1_with_27 : decode cX1_with 27 = .ok (.ireturn, 1) := by decide +kernel
theorem dX1_ends_0 : decode cX1_ends 0 = .ok (.iconst 0, 1) := by decide +kernel
theorem dX1_ends_1 : decode cX1_ends 1 = .ok (.istore_n 1, 1) := by decide +kernel
theorem dX1_ends_2 : decode cX1_ends 2 = .ok (.iload_n 1, 1) := by decide +kernel
theorem dX1_ends_3 : decode cX1_ends 3 = .ok (.bipush 64, 2) := by decide +kernel
theorem dX1_ends_5 : decode cX1_ends 5 = .ok (.if_icmp .ge 16, 3) := by decide +kernel
theorem dX1_ends_8 : decode cX1_ends 8 = .ok (.aload_n 0, 1) := by decide +kernel
theorem dX1_ends_9 : decode cX1_ends 9 = .ok (.getfield 17, 3) := by decide +kernel
theorem dX1_ends_12 : decode cX1_ends 12 = .ok (.iload_n 1, 1) := by decide +kernel
theorem dX1_ends_13 : decode cX1_ends 13 = .ok (.iconst 0, 1) := by decide +kernel
theorem dX1_ends_14 : decode cX1_ends 14 = .ok (.bastore, 1) := by decide +kernel
theorem dX1_ends_15 : decode cX1_ends 15 = .ok (.iinc 1 1, 3) := by decide +kernel
theorem dX1_ends_18 : decode cX1_ends 18 = .ok (.goto (-16), 3) := by decide +kernel
theorem dX1_ends_21 : decode cX1_ends 21 = .ok (.iconst 0, 1) := by decide +kernel
theorem dX1_ends_22 : decode cX1_ends 22 = .ok (.istore_n 1, 1) := by decide +kernel
theorem dX1_ends_23 : decode cX1_ends 23 = .ok (.iconst 0, 1) := by decide +kernel
theorem dX1_ends_24 : decode cX1_ends 24 = .ok (.istore_n 2, 1) := by decide +kernel
theorem dX1_ends_25 : decode cX1_ends 25 = .ok (.iload_n 2, 1) := by decide +kernel
theorem dX1_ends_26 : decode cX1_ends 26 = .ok (.ldc 35, 2) := by decide +kernel
theorem dX1_ends_28 : decode cX1_ends 28 = .ok (.if_icmp .ge 53, 3) := by decide +kernel
theorem dX1_ends_31 : decode cX1_ends 31 = .ok (.bipush 8, 2) := by decide +kernel
theorem dX1_ends_33 : decode cX1_ends 33 = .ok (.aload_n 0, 1) := by decide +kernel
theorem dX1_ends_34 : decode cX1_ends 34 = .ok (.iload_n 2, 1) := by decide +kernel
theorem dX1_ends_35 : decode cX1_ends 35 = .ok (.iconst 0, 1) := by decide +kernel
theorem dX1_ends_36 : decode cX1_ends 36 = .ok (.invokevirtual 28, 3) := by decide +kernel
theorem dX1_ends_39 : decode cX1_ends 39 = .ok (.imul, 1) := by decide +kernel
theorem dX1_ends_40 : decode cX1_ends 40 = .ok (.aload_n 0, 1) := by decide +kernel
theorem dX1_ends_41 : decode cX1_ends 41 = .ok (.iload_n 2, 1) := by decide +kernel
theorem dX1_ends_42 : decode cX1_ends 42 = .ok (.iconst 3, 1) := by decide +kernel
theorem dX1_ends_43 : decode cX1_ends 43 = .ok (.invokevirtual 28, 3) := by decide +kernel
theorem dX1_ends_46 : decode cX1_ends 46 = .ok (.iadd, 1) := by decide +kernel
theorem dX1_ends_47 : decode cX1_ends 47 = .ok (.istore_n 3, 1) := by decide +kernel
theorem dX1_ends_48 : decode cX1_ends 48 = .ok (.aload_n 0, 1) := by decide +kernel
theorem dX1_ends_49 : decode cX1_ends 49 = .ok (.getfield 17, 3) := by decide +kernel
theorem dX1_ends_52 : decode cX1_ends 52 = .ok (.iload_n 3, 1) := by decide +kernel
theorem dX1_ends_53 : decode cX1_ends 53 = .ok (.baload, 1) := by decide +kernel
theorem dX1_ends_54 : decode cX1_ends 54 = .ok (.ifCond .ne 21, 3) := by decide +kernel
theorem dX1_ends_57 : decode cX1_ends 57 = .ok (.aload_n 0, 1) := by decide +kernel
theorem dX1_ends_58 : decode cX1_ends 58 = .ok (.iload_n 2, 1) := by decide +kernel
theorem dX1_ends_59 : decode cX1_ends 59 = .ok (.invokevirtual 36, 3) := by decide +kernel
theorem dX1_ends_62 : decode cX1_ends 62 = .ok (.ifCond .eq 13, 3) := by decide +kernel
theorem dX1_ends_65 : decode cX1_ends 65 = .ok (.aload_n 0, 1) := by decide +kernel
theorem dX1_ends_66 : decode cX1_ends 66 = .ok (.getfield 17, 3) := by decide +kernel
theorem dX1_ends_69 : decode cX1_ends 69 = .ok (.iload_n 3, 1) := by decide +kernel
theorem dX1_ends_70 : decode cX1_ends 70 = .ok (.iconst 1, 1) := by decide +kernel
theorem dX1_ends_71 : decode cX1_ends 71 = .ok (.bastore, 1) := by decide +kernel
theorem dX1_ends_72 : decode cX1_ends 72 = .ok (.iinc 1 1, 3) := by decide +kernel
theorem dX1_ends_75 : decode cX1_ends 75 = .ok (.iinc 2 1, 3) := by decide +kernel
theorem dX1_ends_78 : decode cX1_ends 78 = .ok (.goto (-53), 3) := by decide +kernel
theorem dX1_ends_81 : decode cX1_ends 81 = .ok (.iload_n 1, 1) := by decide +kernel
theorem dX1_ends_82 : decode cX1_ends 82 = .ok (.ireturn, 1) := by decide +kernel
theorem dX1_sum_0 : decode cX1_sum 0 = .ok (.iconst 0, 1) := by decide +kernel
theorem dX1_sum_1 : decode cX1_sum 1 = .ok (.istore_n 1, 1) := by decide +kernel
theorem dX1_sum_2 : decode cX1_sum 2 = .ok (.iconst 0, 1) := by decide +kernel
theorem dX1_sum_3 : decode cX1_sum 3 = .ok (.istore_n 2, 1) := by decide +kernel
theorem dX1_sum_4 : decode cX1_sum 4 = .ok (.iload_n 2, 1) := by decide +kernel
theorem dX1_sum_5 : decode cX1_sum 5 = .ok (.ldc 35, 2) := by decide +kernel
theorem dX1_sum_7 : decode cX1_sum 7 = .ok (.if_icmp .ge 37, 3) := by decide +kernel
theorem dX1_sum_10 : decode cX1_sum 10 = .ok (.aload_n 0, 1) := by decide +kernel
theorem dX1_sum_11 : decode cX1_sum 11 = .ok (.iload_n 2, 1) := by decide +kernel
theorem dX1_sum_12 : decode cX1_sum 12 = .ok (.invokevirtual 36, 3) := by decide +kernel
theorem dX1_sum_15 : decode cX1_sum 15 = .ok (.ifCond .eq 21, 3) := by decide +kernel
theorem dX1_sum_18 : decode cX1_sum 18 = .ok (.iload_n 1, 1) := by decide +kernel
theorem dX1_sum_19 : decode cX1_sum 19 = .ok (.aload_n 0, 1) := by decide +kernel
theorem dX1_sum_20 : decode cX1_sum 20 = .ok (.iload_n 2, 1) := by decide +kernel
theorem dX1_sum_21 : decode cX1_sum 21 = .ok (.iconst 3, 1) := by decide +kernel
theorem dX1_sum_22 : decode cX1_sum 22 = .ok (.invokevirtual 28, 3) := by decide +kernel
theorem dX1_sum_25 : decode cX1_sum 25 = .ok (.iadd, 1) := by decide +kernel
theorem dX1_sum_26 : decode cX1_sum 26 = .ok (.aload_n 0, 1) := by decide +kernel
theorem dX1_sum_27 : decode cX1_sum 27 = .ok (.iload_n 2, 1) := by decide +kernel
theorem dX1_sum_28 : decode cX1_sum 28 = .ok (.iconst 4, 1) := by decide +kernel
theorem dX1_sum_29 : decode cX1_sum 29 = .ok (.invokevirtual 28, 3) := by decide +kernel
theorem dX1_sum_32 : decode cX1_sum 32 = .ok (.iadd, 1) := by decide +kernel
theorem dX1_sum_33 : decode cX1_sum 33 = .ok (.goto 4, 3) := by decide +kernel
theorem dX1_sum_36 : decode cX1_sum 36 = .ok (.iload_n 1, 1) := by decide +kernel
theorem dX1_sum_37 : decode cX1_sum 37 = .ok (.istore_n 1, 1) := by decide +kernel
theorem dX1_sum_38 : decode cX1_sum 38 = .ok (.iinc 2 1, 3) := by decide +kernel
theorem dX1_sum_41 : decode cX1_sum 41 = .ok (.goto (-37), 3) := by decide +kernel
theorem dX1_sum_44 : decode cX1_sum 44 = .ok (.iload_n 1, 1) := by decide +kernel
theorem dX1_sum_45 : decode cX1_sum 45 = .ok (.ireturn, 1) := by decide +kernel
end
end
section
section
set_option maxRecDepth 100000
theorem dL_law_0 : decode cL_law 0 = .ok (.new 7, 3) := by decide +kernel
theorem dL_law_3 : decode cL_law 3 = .ok (.dup, 1) := by decide +kernel
theorem dL_law_4 : decode cL_law 4 = .ok (.invokespecial 9, 3) := by decide +kernel
theorem dL_law_7 : decode cL_law 7 = .ok (.astore_n 1, 1) := by decide +kernel
theorem dL_law_8 : decode cL_law 8 = .ok (.new 10, 3) := by decide +kernel
theorem dL_law_11 : decode cL_law 11 = .ok (.dup, 1) := by decide +kernel
theorem dL_law_12 : decode cL_law 12 = .ok (.invokespecial 12, 3) := by decide +kernel
theorem dL_law_15 : decode cL_law 15 = .ok (.astore_n 2, 1) := by decide +kernel
theorem dL_law_16 : decode cL_law 16 = .ok (.iconst 0, 1) := by decide +kernel
theorem dL_law_17 : decode cL_law 17 = .ok (.istore_n 3, 1) := by decide +kernel
theorem dL_law_18 : decode cL_law 18 = .ok (.iload_n 3, 1) := by decide +kernel
theorem dL_law_19 : decode cL_law 19 = .ok (.aload_n 0, 1) := by decide +kernel
theorem dL_law_20 : decode cL_law 20 = .ok (.arraylength, 1) := by decide +kernel
theorem dL_law_21 : decode cL_law 21 = .ok (.iconst 4, 1) := by decide +kernel
theorem dL_law_22 : decode cL_law 22 = .ok (.isub, 1) := by decide +kernel
theorem dL_law_23 : decode cL_law 23 = .ok (.if_icmp .gt 496, 3) := by decide +kernel
theorem dL_law_26 : decode cL_law 26 = .ok (.aload_n 0, 1) := by decide +kernel
theorem dL_law_27 : decode cL_law 27 = .ok (.iload_n 3, 1) := by decide +kernel
theorem dL_law_28 : decode cL_law 28 = .ok (.iaload, 1) := by decide +kernel
theorem dL_law_29 : decode cL_law 29 = .ok (.bipush 15, 2) := by decide +kernel
theorem dL_law_31 : decode cL_law 31 = .ok (.iand, 1) := by decide +kernel
theorem dL_law_32 : decode cL_law 32 = .ok (.tableswitch 481 0 14 #[76, 119, 162, 185, 208, 221, 244, 267, 290, 313, 356, 399, 422, 455, 468], 76) := by decide +kernel
theorem dL_law_108 : decode cL_law 108 = .ok (.aload_n 1, 1) := by decide +kernel
theorem dL_law_109 : decode cL_law 109 = .ok (.aload_n 0, 1) := by decide +kernel
theorem dL_law_110 : decode cL_law 110 = .ok (.iload_n 3, 1) := by decide +kernel
theorem dL_law_111 : decode cL_law 111 = .ok (.iconst 1, 1) := by decide +kernel
theorem dL_law_112 : decode cL_law 112 = .ok (.iadd, 1) := by decide +kernel
theorem dL_law_113 : decode cL_law 113 = .ok (.iaload, 1) := by decide +kernel
theorem dL_law_114 : decode cL_law 114 = .ok (.aload_n 0, 1) := by decide +kernel
theorem dL_law_115 : decode cL_law 115 = .ok (.iload_n 3, 1) := by decide +kernel
theorem dL_law_116 : decode cL_law 116 = .ok (.iconst 2, 1) := by decide +kernel
theorem dL_law_117 : decode cL_law 117 = .ok (.iadd, 1) := by decide +kernel
theorem dL_law_118 : decode cL_law 118 = .ok (.iaload, 1) := by decide +kernel
theorem dL_law_119 : decode cL_law 119 = .ok (.aload_n 0, 1) := by decide +kernel
theorem dL_law_120 : decode cL_law 120 = .ok (.iload_n 3, 1) := by decide +kernel
theorem dL_law_121 : decode cL_law 121 = .ok (.iconst 3, 1) := by decide +kernel
theorem dL_law_122 : decode cL_law 122 = .ok (.iadd, 1) := by decide +kernel
theorem dL_law_123 : decode cL_law 123 = .ok (.iaload, 1) := by decide +kernel
theorem dL_law_124 : decode cL_law 124 = .ok (.invokevirtual 13, 3) := by decide +kernel
theorem dL_law_127 : decode cL_law 127 = .ok (.aload_n 2, 1) := by decide +kernel
theorem dL_law_128 : decode cL_law 128 = .ok (.aload_n 0, 1) := by decide +kernel
theorem dL_law_129 : decode cL_law 129 = .ok (.iload_n 3, 1) := by decide +kernel
theorem dL_law_130 : decode cL_law 130 = .ok (.iconst 1, 1) := by decide +kernel
theorem dL_law_131 : decode cL_law 131 = .ok (.iadd, 1) := by decide +kernel
theorem dL_law_132 : decode cL_law 132 = .ok (.iaload, 1) := by decide +kernel
theorem dL_law_133 : decode cL_law 133 = .ok (.aload_n 0, 1) := by decide +kernel
theorem dL_law_134 : decode cL_law 134 = .ok (.iload_n 3, 1) := by decide +kernel
theorem dL_law_135 : decode cL_law 135 = .ok (.iconst 2, 1) := by decide +kernel
theorem dL_law_136 : decode cL_law 136 = .ok (.iadd, 1) := by decide +kernel
theorem dL_law_137 : decode cL_law 137 = .ok (.iaload, 1) := by decide +kernel
theorem dL_law_138 : decode cL_law 138 = .ok (.aload_n 0, 1) := by decide +kernel
theorem dL_law_139 : decode cL_law 139 = .ok (.iload_n 3, 1) := by decide +kernel
theorem dL_law_140 : decode cL_law 140 = .ok (.iconst 3, 1) := by decide +kernel
theorem dL_law_141 : decode cL_law 141 = .ok (.iadd, 1) := by decide +kernel
theorem dL_law_142 : decode cL_law 142 = .ok (.iaload, 1) := by decide +kernel
theorem dL_law_143 : decode cL_law 143 = .ok (.invokevirtual 17, 3) := by decide +kernel
theorem dL_law_146 : decode cL_law 146 = .ok (.if_icmp .eq 367, 3) := by decide +kernel
theorem dL_law_149 : decode cL_law 149 = .ok (.iconst 0, 1) := by decide +kernel
theorem dL_law_150 : decode cL_law 150 = .ok (.ireturn, 1) := by decide +kernel
theorem dL_law_151 : decode cL_law 151 = .ok (.aload_n 1, 1) := by decide +kernel
theorem dL_law_152 : decode cL_law 152 = .ok (.aload_n 0, 1) := by decide +kernel
theorem dL_law_153 : decode cL_law 153 = .ok (.iload_n 3, 1) := by decide +kernel
theorem dL_law_154 : decode cL_law 154 = .ok (.iconst 1, 1) := by decide +kernel
theorem dL_law_155 : decode cL_law 155 = .ok (.iadd, 1) := by decide +kernel
theorem dL_law_156 : decode cL_law 156 = .ok (.iaload, 1) := by decide +kernel
theorem dL_law_157 : decode cL_law 157 = .ok (.aload_n 0, 1) := by decide +kernel
theorem dL_law_158 : decode cL_law 158 = .ok (.iload_n 3, 1) := by decide +kernel
theorem dL_law_159 : decode cL_law 159 = .ok (.iconst 2, 1) := by decide +kernel
theorem dL_law_160 : decode cL_law 160 = .ok (.iadd, 1) := by decide +kernel
theorem dL_law_161 : decode cL_law 161 = .ok (.iaload, 1) := by decide +kernel
theorem dL_law_162 : decode cL_law 162 = .ok (.aload_n 0, 1) := by decide +kernel
theorem dL_law_163 : decode cL_law 163 = .ok (.iload_n 3, 1) := by decide +kernel
theorem dL_law_164 : decode cL_law 164 = .ok (.iconst 3, 1) := by decide +kernel
theorem dL_law_165 : decode cL_law 165 = .ok (.iadd, 1) := by decide +kernel
theorem dL_law_166 : decode cL_law 166 = .ok (.iaload, 1) := by decide +kernel
theorem dL_law_167 : decode cL_law 167 = .ok (.invokevirtual 18, 3) := by decide +kernel
theorem dL_law_170 : decode cL_law 170 = .ok (.aload_n 2, 1) := by decide +kernel
theorem dL_law_171 : decode cL_law 171 = .ok (.aload_n 0, 1) := by decide +kernel
theorem dL_law_172 : decode cL_law 172 = .ok (.iload_n 3, 1) := by decide +kernel
theorem dL_law_173 : decode cL_law 173 = .ok (.iconst 1, 1) := by decide +kernel
theorem dL_law_174 : decode cL_law 174 = .ok (.iadd, 1) := by decide +kernel
theorem dL_law_175 : decode cL_law 175 = .ok (.iaload, 1) := by decide +kernel
theorem dL_law_176 : decode cL_law 176 = .ok (.aload_n 0, 1) := by decide +kernel
theorem dL_law_177 : decode cL_law 177 = .ok (.iload_n 3, 1) := by decide +kernel
theorem dL_law_178 : decode cL_law 178 = .ok (.iconst 2, 1) := by decide +kernel
theorem dL_law_179 : decode cL_law 179 = .ok (.iadd, 1) := by decide +kernel
theorem dL_law_180 : decode cL_law 180 = .ok (.iaload, 1) := by decide +kernel
theorem dL_law_181 : decode cL_law 181 = .ok (.aload_n 0, 1) := by decide +kernel
theorem dL_law_182 : decode cL_law 182 = .ok (.iload_n 3, 1) := by decide +kernel
theorem dL_law_183 : decode cL_law 183 = .ok (.iconst 3, 1) := by decide +kernel
theorem dL_law_184 : decode cL_law 184 = .ok (.iadd, 1) := by decide +kernel
theorem dL_law_185 : decode cL_law 185 = .ok (.iaload, 1) := by decide +kernel
theorem dL_law_186 : decode cL_law 186 = .ok (.invokevirtual 21, 3) := by decide +kernel
theorem dL_law_189 : decode cL_law 189 = .ok (.if_icmp .eq 324, 3) := by decide +kernel
theorem dL_law_192 : decode cL_law 192 = .ok (.iconst 0, 1) := by decide +kernel
theorem dL_law_193 : decode cL_law 193 = .ok (.ireturn, 1) := by decide +kernel
theorem dL_law_194 : decode cL_law 194 = .ok (.aload_n 1, 1) := by decide +kernel
theorem dL_law_195 : decode cL_law 195 = .ok (.aload_n 0, 1) := by decide +kernel
theorem dL_law_196 : decode cL_law 196 = .ok (.iload_n 3, 1) := by decide +kernel
theorem dL_law_197 : decode cL_law 197 = .ok (.iconst 1, 1) := by decide +kernel
theorem dL_law_198 : decode cL_law 198 = .ok (.iadd, 1) := by decide +kernel
theorem dL_law_199 : decode cL_law 199 = .ok (.iaload, 1) := by decide +kernel
theorem dL_law_200 : decode cL_law 200 = .ok (.invokevirtual 22, 3) := by decide +kernel
theorem dL_law_203 : decode cL_law 203 = .ok (.aload_n 2, 1) := by decide +kernel
theorem dL_law_204 : decode cL_law 204 = .ok (.aload_n 0, 1) := by decide +kernel
theorem dL_law_205 : decode cL_law 205 = .ok (.iload_n 3, 1) := by decide +kernel
theorem dL_law_206 : decode cL_law 206 = .ok (.iconst 1, 1) := by decide +kernel
theorem dL_law_207 : decode cL_law 207 = .ok (.iadd, 1) := by decide +kernel
theorem dL_law_208 : decode cL_law 208 = .ok (.iaload, 1) := by decide +kernel
theorem dL_law_209 : decode cL_law 209 = .ok (.invokevirtual 26, 3) := by decide +kernel
theorem dL_law_212 : decode cL_law 212 = .ok (.if_icmp .eq 301, 3) := by decide +kernel
theorem dL_law_215 : decode cL_law 215 = .ok (.iconst 0, 1) := by decide +kernel
theorem dL_law_216 : decode cL_law 216 = .ok (.ireturn, 1) := by decide +kernel
theorem dL_law_217 : decode cL_law 217 = .ok (.aload_n 1, 1) := by decide +kernel
theorem dL_law_218 : decode cL_law 218 = .ok (.aload_n 0, 1) := by decide +kernel
theorem dL_law_219 : decode cL_law 219 = .ok (.iload_n 3, 1) := by decide +kernel
theorem dL_law_220 : decode cL_law 220 = .ok (.iconst 1, 1) := by decide +kernel
theorem dL_law_221 : decode cL_law 221 = .ok (.iadd, 1) := by decide +kernel
theorem dL_law_222 : decode cL_law 222 = .ok (.iaload, 1) := by decide +kernel
theorem dL_law_223 : decode cL_law 223 = .ok (.invokevirtual 27, 3) := by decide +kernel
end
end
section
section
set_option maxRecDepth 100000
theorem dL_law_226 : decode cL_law 226 = .ok (.aload_n 2, 1) := by decide +kernel
theorem dL_law_227 : decode cL_law 227 = .ok (.aload_n 0, 1) := by decide +kernel
theorem dL_law_228 : decode cL_law 228 = .ok (.iload_n 3, 1) := by decide +kernel
theorem dL_law_229 : decode cL_law 229 = .ok (.iconst 1, 1) := by decide +kernel
theorem dL_law_230 : decode cL_law 230 = .ok (.iadd, 1) := by decide +kernel
theorem dL_law_231 : decode cL_law 231 = .ok (.iaload, 1) := by decide +kernel
theorem dL_law_232 : decode cL_law 232 = .ok (.invokevirtual 30, 3) := by decide +kernel
theorem dL_law_235 : decode cL_law 235 = .ok (.if_icmp .eq 278, 3) := by decide +kernel
theorem dL_law_238 : decode cL_law 238 = .ok (.iconst 0, 1) := by decide +kernel
theorem dL_law_239 : decode cL_law 239 = .ok (.ireturn, 1) := by decide +kernel
theorem dL_law_240 : decode cL_law 240 = .ok (.aload_n 1, 1) := by decide +kernel
theorem dL_law_241 : decode cL_law 241 = .ok (.invokevirtual 31, 3) := by decide +kernel
theorem dL_law_244 : decode cL_law 244 = .ok (.aload_n 2, 1) := by decide +kernel
theorem dL_law_245 : decode cL_law 245 = .ok (.invokevirtual 35, 3) := by decide +kernel
theorem dL_law_248 : decode cL_law 248 = .ok (.if_icmp .eq 265, 3) := by decide +kernel
theorem dL_law_251 : decode cL_law 251 = .ok (.iconst 0, 1) := by decide +kernel
theorem dL_law_252 : decode cL_law 252 = .ok (.ireturn, 1) := by decide +kernel
theorem dL_law_253 : decode cL_law 253 = .ok (.aload_n 1, 1) := by decide +kernel
theorem dL_law_254 : decode cL_law 254 = .ok (.aload_n 0, 1) := by decide +kernel
theorem dL_law_255 : decode cL_law 255 = .ok (.iload_n 3, 1) := by decide +kernel
theorem dL_law_256 : decode cL_law 256 = .ok (.iconst 1, 1) := by decide +kernel
theorem dL_law_257 : decode cL_law 257 = .ok (.iadd, 1) := by decide +kernel
theorem dL_law_258 : decode cL_law 258 = .ok (.iaload, 1) := by decide +kernel
theorem dL_law_259 : decode cL_law 259 = .ok (.invokevirtual 36, 3) := by decide +kernel
theorem dL_law_262 : decode cL_law 262 = .ok (.aload_n 2, 1) := by decide +kernel
theorem dL_law_263 : decode cL_law 263 = .ok (.aload_n 0, 1) := by decide +kernel
theorem dL_law_264 : decode cL_law 264 = .ok (.iload_n 3, 1) := by decide +kernel
theorem dL_law_265 : decode cL_law 265 = .ok (.iconst 1, 1) := by decide +kernel
theorem dL_law_266 : decode cL_law 266 = .ok (.iadd, 1) := by decide +kernel
theorem dL_law_267 : decode cL_law 267 = .ok (.iaload, 1) := by decide +kernel
theorem dL_law_268 : decode cL_law 268 = .ok (.invokevirtual 39, 3) := by decide +kernel
theorem dL_law_271 : decode cL_law 271 = .ok (.if_icmp .eq 242, 3) := by decide +kernel
theorem dL_law_274 : decode cL_law 274 = .ok (.iconst 0, 1) := by decide +kernel
theorem dL_law_275 : decode cL_law 275 = .ok (.ireturn, 1) := by decide +kernel
theorem dL_law_276 : decode cL_law 276 = .ok (.aload_n 1, 1) := by decide +kernel
theorem dL_law_277 : decode cL_law 277 = .ok (.aload_n 0, 1) := by decide +kernel
theorem dL_law_278 : decode cL_law 278 = .ok (.iload_n 3, 1) := by decide +kernel
theorem dL_law_279 : decode cL_law 279 = .ok (.iconst 1, 1) := by decide +kernel
theorem dL_law_280 : decode cL_law 280 = .ok (.iadd, 1) := by decide +kernel
theorem dL_law_281 : decode cL_law 281 = .ok (.iaload, 1) := by decide +kernel
theorem dL_law_282 : decode cL_law 282 = .ok (.invokevirtual 40, 3) := by decide +kernel
theorem dL_law_285 : decode cL_law 285 = .ok (.aload_n 2, 1) := by decide +kernel
theorem dL_law_286 : decode cL_law 286 = .ok (.aload_n 0, 1) := by decide +kernel
theorem dL_law_287 : decode cL_law 287 = .ok (.iload_n 3, 1) := by decide +kernel
theorem dL_law_288 : decode cL_law 288 = .ok (.iconst 1, 1) := by decide +kernel
theorem dL_law_289 : decode cL_law 289 = .ok (.iadd, 1) := by decide +kernel
theorem dL_law_290 : decode cL_law 290 = .ok (.iaload, 1) := by decide +kernel
theorem dL_law_291 : decode cL_law 291 = .ok (.invokevirtual 44, 3) := by decide +kernel
theorem dL_law_294 : decode cL_law 294 = .ok (.if_icmp .eq 219, 3) := by decide +kernel
theorem dL_law_297 : decode cL_law 297 = .ok (.iconst 0, 1) := by decide +kernel
theorem dL_law_298 : decode cL_law 298 = .ok (.ireturn, 1) := by decide +kernel
theorem dL_law_299 : decode cL_law 299 = .ok (.aload_n 1, 1) := by decide +kernel
theorem dL_law_300 : decode cL_law 300 = .ok (.aload_n 0, 1) := by decide +kernel
theorem dL_law_301 : decode cL_law 301 = .ok (.iload_n 3, 1) := by decide +kernel
theorem dL_law_302 : decode cL_law 302 = .ok (.iconst 1, 1) := by decide +kernel
theorem dL_law_303 : decode cL_law 303 = .ok (.iadd, 1) := by decide +kernel
theorem dL_law_304 : decode cL_law 304 = .ok (.iaload, 1) := by decide +kernel
theorem dL_law_305 : decode cL_law 305 = .ok (.invokevirtual 45, 3) := by decide +kernel
theorem dL_law_308 : decode cL_law 308 = .ok (.aload_n 2, 1) := by decide +kernel
theorem dL_law_309 : decode cL_law 309 = .ok (.aload_n 0, 1) := by decide +kernel
theorem dL_law_310 : decode cL_law 310 = .ok (.iload_n 3, 1) := by decide +kernel
theorem dL_law_311 : decode cL_law 311 = .ok (.iconst 1, 1) := by decide +kernel
theorem dL_law_312 : decode cL_law 312 = .ok (.iadd, 1) := by decide +kernel
theorem dL_law_313 : decode cL_law 313 = .ok (.iaload, 1) := by decide +kernel
theorem dL_law_314 : decode cL_law 314 = .ok (.invokevirtual 48, 3) := by decide +kernel
theorem dL_law_317 : decode cL_law 317 = .ok (.if_icmp .eq 196, 3) := by decide +kernel
theorem dL_law_320 : decode cL_law 320 = .ok (.iconst 0, 1) := by decide +kernel
theorem dL_law_321 : decode cL_law 321 = .ok (.ireturn, 1) := by decide +kernel
theorem dL_law_322 : decode cL_law 322 = .ok (.aload_n 1, 1) := by decide +kernel
theorem dL_law_323 : decode cL_law 323 = .ok (.aload_n 0, 1) := by decide +kernel
theorem dL_law_324 : decode cL_law 324 = .ok (.iload_n 3, 1) := by decide +kernel
theorem dL_law_325 : decode cL_law 325 = .ok (.iconst 1, 1) := by decide +kernel
theorem dL_law_326 : decode cL_law 326 = .ok (.iadd, 1) := by decide +kernel
theorem dL_law_327 : decode cL_law 327 = .ok (.iaload, 1) := by decide +kernel
theorem dL_law_328 : decode cL_law 328 = .ok (.invokevirtual 49, 3) := by decide +kernel
theorem dL_law_331 : decode cL_law 331 = .ok (.aload_n 2, 1) := by decide +kernel
theorem dL_law_332 : decode cL_law 332 = .ok (.aload_n 0, 1) := by decide +kernel
theorem dL_law_333 : decode cL_law 333 = .ok (.iload_n 3, 1) := by decide +kernel
theorem dL_law_334 : decode cL_law 334 = .ok (.iconst 1, 1) := by decide +kernel
theorem dL_law_335 : decode cL_law 335 = .ok (.iadd, 1) := by decide +kernel
theorem dL_law_336 : decode cL_law 336 = .ok (.iaload, 1) := by decide +kernel
theorem dL_law_337 : decode cL_law 337 = .ok (.invokevirtual 52, 3) := by decide +kernel
theorem dL_law_340 : decode cL_law 340 = .ok (.if_icmp .eq 173, 3) := by decide +kernel
theorem dL_law_343 : decode cL_law 343 = .ok (.iconst 0, 1) := by decide +kernel
theorem dL_law_344 : decode cL_law 344 = .ok (.ireturn, 1) := by decide +kernel
theorem dL_law_345 : decode cL_law 345 = .ok (.aload_n 1, 1) := by decide +kernel
theorem dL_law_346 : decode cL_law 346 = .ok (.aload_n 0, 1) := by decide +kernel
theorem dL_law_347 : decode cL_law 347 = .ok (.iload_n 3, 1) := by decide +kernel
theorem dL_law_348 : decode cL_law 348 = .ok (.iconst 1, 1) := by decide +kernel
theorem dL_law_349 : decode cL_law 349 = .ok (.iadd, 1) := by decide +kernel
theorem dL_law_350 : decode cL_law 350 = .ok (.iaload, 1) := by decide +kernel
theorem dL_law_351 : decode cL_law 351 = .ok (.aload_n 0, 1) := by decide +kernel
theorem dL_law_352 : decode cL_law 352 = .ok (.iload_n 3, 1) := by decide +kernel
theorem dL_law_353 : decode cL_law 353 = .ok (.iconst 2, 1) := by decide +kernel
theorem dL_law_354 : decode cL_law 354 = .ok (.iadd, 1) := by decide +kernel
theorem dL_law_355 : decode cL_law 355 = .ok (.iaload, 1) := by decide +kernel
theorem dL_law_356 : decode cL_law 356 = .ok (.aload_n 0, 1) := by decide +kernel
theorem dL_law_357 : decode cL_law 357 = .ok (.iload_n 3, 1) := by decide +kernel
theorem dL_law_358 : decode cL_law 358 = .ok (.iconst 3, 1) := by decide +kernel
theorem dL_law_359 : decode cL_law 359 = .ok (.iadd, 1) := by decide +kernel
theorem dL_law_360 : decode cL_law 360 = .ok (.iaload, 1) := by decide +kernel
theorem dL_law_361 : decode cL_law 361 = .ok (.invokevirtual 53, 3) := by decide +kernel
theorem dL_law_364 : decode cL_law 364 = .ok (.aload_n 2, 1) := by decide +kernel
theorem dL_law_365 : decode cL_law 365 = .ok (.aload_n 0, 1) := by decide +kernel
theorem dL_law_366 : decode cL_law 366 = .ok (.iload_n 3, 1) := by decide +kernel
theorem dL_law_367 : decode cL_law 367 = .ok (.iconst 1, 1) := by decide +kernel
theorem dL_law_368 : decode cL_law 368 = .ok (.iadd, 1) := by decide +kernel
theorem dL_law_369 : decode cL_law 369 = .ok (.iaload, 1) := by decide +kernel
theorem dL_law_370 : decode cL_law 370 = .ok (.aload_n 0, 1) := by decide +kernel
theorem dL_law_371 : decode cL_law 371 = .ok (.iload_n 3, 1) := by decide +kernel
theorem dL_law_372 : decode cL_law 372 = .ok (.iconst 2, 1) := by decide +kernel
theorem dL_law_373 : decode cL_law 373 = .ok (.iadd, 1) := by decide +kernel
theorem dL_law_374 : decode cL_law 374 = .ok (.iaload, 1) := by decide +kernel
theorem dL_law_375 : decode cL_law 375 = .ok (.aload_n 0, 1) := by decide +kernel
theorem dL_law_376 : decode cL_law 376 = .ok (.iload_n 3, 1) := by decide +kernel
theorem dL_law_377 : decode cL_law 377 = .ok (.iconst 3, 1) := by decide +kernel
theorem dL_law_378 : decode cL_law 378 = .ok (.iadd, 1) := by decide +kernel
theorem dL_law_379 : decode cL_law 379 = .ok (.iaload, 1) := by decide +kernel
theorem dL_law_380 : decode cL_law 380 = .ok (.invokevirtual 56, 3) := by decide +kernel
theorem dL_law_383 : decode cL_law 383 = .ok (.if_icmp .eq 130, 3) := by decide +kernel
end
end
section
section
set_option maxRecDepth 100000
theorem dL_law_386 : decode cL_law 386 = .ok (.iconst 0, 1) := by decide +kernel
theorem dL_law_387 : decode cL_law 387 = .ok (.ireturn, 1) := by decide +kernel
theorem dL_law_388 : decode cL_law 388 = .ok (.aload_n 1, 1) := by decide +kernel
theorem dL_law_389 : decode cL_law 389 = .ok (.aload_n 0, 1) := by decide +kernel
theorem dL_law_390 : decode cL_law 390 = .ok (.iload_n 3, 1) := by decide +kernel
theorem dL_law_391 : decode cL_law 391 = .ok (.iconst 1, 1) := by decide +kernel
theorem dL_law_392 : decode cL_law 392 = .ok (.iadd, 1) := by decide +kernel
theorem dL_law_393 : decode cL_law 393 = .ok (.iaload, 1) := by decide +kernel
theorem dL_law_394 : decode cL_law 394 = .ok (.aload_n 0, 1) := by decide +kernel
theorem dL_law_395 : decode cL_law 395 = .ok (.iload_n 3, 1) := by decide +kernel
theorem dL_law_396 : decode cL_law 396 = .ok (.iconst 2, 1) := by decide +kernel
theorem dL_law_397 : decode cL_law 397 = .ok (.iadd, 1) := by decide +kernel
theorem dL_law_398 : decode cL_law 398 = .ok (.iaload, 1) := by decide +kernel
theorem dL_law_399 : decode cL_law 399 = .ok (.aload_n 0, 1) := by decide +kernel
theorem dL_law_400 : decode cL_law 400 = .ok (.iload_n 3, 1) := by decide +kernel
theorem dL_law_401 : decode cL_law 401 = .ok (.iconst 3, 1) := by decide +kernel
theorem dL_law_402 : decode cL_law 402 = .ok (.iadd, 1) := by decide +kernel
theorem dL_law_403 : decode cL_law 403 = .ok (.iaload, 1) := by decide +kernel
theorem dL_law_404 : decode cL_law 404 = .ok (.invokevirtual 57, 3) := by decide +kernel
theorem dL_law_407 : decode cL_law 407 = .ok (.aload_n 2, 1) := by decide +kernel
theorem dL_law_408 : decode cL_law 408 = .ok (.aload_n 0, 1) := by decide +kernel
theorem dL_law_409 : decode cL_law 409 = .ok (.iload_n 3, 1) := by decide +kernel
theorem dL_law_410 : decode cL_law 410 = .ok (.iconst 1, 1) := by decide +kernel
theorem dL_law_411 : decode cL_law 411 = .ok (.iadd, 1) := by decide +kernel
theorem dL_law_412 : decode cL_law 412 = .ok (.iaload, 1) := by decide +kernel
theorem dL_law_413 : decode cL_law 413 = .ok (.aload_n 0, 1) := by decide +kernel
theorem dL_law_414 : decode cL_law 414 = .ok (.iload_n 3, 1) := by decide +kernel
theorem dL_law_415 : decode cL_law 415 = .ok (.iconst 2, 1) := by decide +kernel
theorem dL_law_416 : decode cL_law 416 = .ok (.iadd, 1) := by decide +kernel
theorem dL_law_417 : decode cL_law 417 = .ok (.iaload, 1) := by decide +kernel
theorem dL_law_418 : decode cL_law 418 = .ok (.aload_n 0, 1) := by decide +kernel
theorem dL_law_419 : decode cL_law 419 = .ok (.iload_n 3, 1) := by decide +kernel
theorem dL_law_420 : decode cL_law 420 = .ok (.iconst 3, 1) := by decide +kernel
theorem dL_law_421 : decode cL_law 421 = .ok (.iadd, 1) := by decide +kernel
theorem dL_law_422 : decode cL_law 422 = .ok (.iaload, 1) := by decide +kernel
theorem dL_law_423 : decode cL_law 423 = .ok (.invokevirtual 60, 3) := by decide +kernel
theorem dL_law_426 : decode cL_law 426 = .ok (.if_icmp .eq 87, 3) := by decide +kernel
theorem dL_law_429 : decode cL_law 429 = .ok (.iconst 0, 1) := by decide +kernel
theorem dL_law_430 : decode cL_law 430 = .ok (.ireturn, 1) := by decide +kernel
theorem dL_law_431 : decode cL_law 431 = .ok (.aload_n 1, 1) := by decide +kernel
theorem dL_law_432 : decode cL_law 432 = .ok (.aload_n 0, 1) := by decide +kernel
theorem dL_law_433 : decode cL_law 433 = .ok (.iload_n 3, 1) := by decide +kernel
theorem dL_law_434 : decode cL_law 434 = .ok (.iconst 1, 1) := by decide +kernel
theorem dL_law_435 : decode cL_law 435 = .ok (.iadd, 1) := by decide +kernel
theorem dL_law_436 : decode cL_law 436 = .ok (.iaload, 1) := by decide +kernel
theorem dL_law_437 : decode cL_law 437 = .ok (.invokevirtual 61, 3) := by decide +kernel
theorem dL_law_440 : decode cL_law 440 = .ok (.aload_n 2, 1) := by decide +kernel
theorem dL_law_441 : decode cL_law 441 = .ok (.aload_n 0, 1) := by decide +kernel
theorem dL_law_442 : decode cL_law 442 = .ok (.iload_n 3, 1) := by decide +kernel
theorem dL_law_443 : decode cL_law 443 = .ok (.iconst 1, 1) := by decide +kernel
theorem dL_law_444 : decode cL_law 444 = .ok (.iadd, 1) := by decide +kernel
theorem dL_law_445 : decode cL_law 445 = .ok (.iaload, 1) := by decide +kernel
theorem dL_law_446 : decode cL_law 446 = .ok (.invokevirtual 64, 3) := by decide +kernel
theorem dL_law_449 : decode cL_law 449 = .ok (.if_icmp .eq 64, 3) := by decide +kernel
theorem dL_law_452 : decode cL_law 452 = .ok (.iconst 0, 1) := by decide +kernel
theorem dL_law_453 : decode cL_law 453 = .ok (.ireturn, 1) := by decide +kernel
theorem dL_law_454 : decode cL_law 454 = .ok (.aload_n 1, 1) := by decide +kernel
theorem dL_law_455 : decode cL_law 455 = .ok (.aload_n 0, 1) := by decide +kernel
theorem dL_law_456 : decode cL_law 456 = .ok (.iload_n 3, 1) := by decide +kernel
theorem dL_law_457 : decode cL_law 457 = .ok (.iconst 1, 1) := by decide +kernel
theorem dL_law_458 : decode cL_law 458 = .ok (.iadd, 1) := by decide +kernel
theorem dL_law_459 : decode cL_law 459 = .ok (.iaload, 1) := by decide +kernel
theorem dL_law_460 : decode cL_law 460 = .ok (.aload_n 0, 1) := by decide +kernel
theorem dL_law_461 : decode cL_law 461 = .ok (.iload_n 3, 1) := by decide +kernel
theorem dL_law_462 : decode cL_law 462 = .ok (.iconst 2, 1) := by decide +kernel
theorem dL_law_463 : decode cL_law 463 = .ok (.iadd, 1) := by decide +kernel
theorem dL_law_464 : decode cL_law 464 = .ok (.iaload, 1) := by decide +kernel
theorem dL_law_465 : decode cL_law 465 = .ok (.invokevirtual 65, 3) := by decide +kernel
theorem dL_law_468 : decode cL_law 468 = .ok (.aload_n 2, 1) := by decide +kernel
theorem dL_law_469 : decode cL_law 469 = .ok (.aload_n 0, 1) := by decide +kernel
theorem dL_law_470 : decode cL_law 470 = .ok (.iload_n 3, 1) := by decide +kernel
theorem dL_law_471 : decode cL_law 471 = .ok (.iconst 1, 1) := by decide +kernel
theorem dL_law_472 : decode cL_law 472 = .ok (.iadd, 1) := by decide +kernel
theorem dL_law_473 : decode cL_law 473 = .ok (.iaload, 1) := by decide +kernel
theorem dL_law_474 : decode cL_law 474 = .ok (.aload_n 0, 1) := by decide +kernel
theorem dL_law_475 : decode cL_law 475 = .ok (.iload_n 3, 1) := by decide +kernel
theorem dL_law_476 : decode cL_law 476 = .ok (.iconst 2, 1) := by decide +kernel
theorem dL_law_477 : decode cL_law 477 = .ok (.iadd, 1) := by decide +kernel
theorem dL_law_478 : decode cL_law 478 = .ok (.iaload, 1) := by decide +kernel
theorem dL_law_479 : decode cL_law 479 = .ok (.invokevirtual 69, 3) := by decide +kernel
theorem dL_law_482 : decode cL_law 482 = .ok (.if_icmp .eq 31, 3) := by decide +kernel
theorem dL_law_485 : decode cL_law 485 = .ok (.iconst 0, 1) := by decide +kernel
theorem dL_law_486 : decode cL_law 486 = .ok (.ireturn, 1) := by decide +kernel
theorem dL_law_487 : decode cL_law 487 = .ok (.aload_n 1, 1) := by decide +kernel
theorem dL_law_488 : decode cL_law 488 = .ok (.invokevirtual 70, 3) := by decide +kernel
theorem dL_law_491 : decode cL_law 491 = .ok (.aload_n 2, 1) := by decide +kernel
theorem dL_law_492 : decode cL_law 492 = .ok (.invokevirtual 73, 3) := by decide +kernel
theorem dL_law_495 : decode cL_law 495 = .ok (.if_icmp .eq 18, 3) := by decide +kernel
theorem dL_law_498 : decode cL_law 498 = .ok (.iconst 0, 1) := by decide +kernel
theorem dL_law_499 : decode cL_law 499 = .ok (.ireturn, 1) := by decide +kernel
theorem dL_law_500 : decode cL_law 500 = .ok (.aload_n 1, 1) := by decide +kernel
theorem dL_law_501 : decode cL_law 501 = .ok (.invokevirtual 74, 3) := by decide +kernel
theorem dL_law_504 : decode cL_law 504 = .ok (.aload_n 2, 1) := by decide +kernel
theorem dL_law_505 : decode cL_law 505 = .ok (.invokevirtual 77, 3) := by decide +kernel
theorem dL_law_508 : decode cL_law 508 = .ok (.if_icmp .eq 5, 3) := by decide +kernel
theorem dL_law_511 : decode cL_law 511 = .ok (.iconst 0, 1) := by decide +kernel
theorem dL_law_512 : decode cL_law 512 = .ok (.ireturn, 1) := by decide +kernel
theorem dL_law_513 : decode cL_law 513 = .ok (.iinc 3 4, 3) := by decide +kernel
theorem dL_law_516 : decode cL_law 516 = .ok (.goto (-498), 3) := by decide +kernel
theorem dL_law_519 : decode cL_law 519 = .ok (.iconst 1, 1) := by decide +kernel
theorem dL_law_520 : decode cL_law 520 = .ok (.ireturn, 1) := by decide +kernel
end
end
section
section
set_option maxRecDepth 100000
theorem aj_hX0_put : yX0_put.cls = RX0 ∧ yX0_put.cls ≠ "java/lang/invoke/MethodHandle" ∧ yX0_put.cls ≠ "java/lang/invoke/VarHandle" ∧ (parseMethodDescriptor yX0_put.desc).map (fun d => d.parameters.length) = some 3 := by decide +kernel
theorem aj_hX0_badRow : yX0_badRow.cls = RX0 ∧ yX0_badRow.cls ≠ "java/lang/invoke/MethodHandle" ∧ yX0_badRow.cls ≠ "java/lang/invoke/VarHandle" ∧ (parseMethodDescriptor yX0_badRow.desc).map (fun d => d.parameters.length) = some 3 := by decide +kernel
theorem aj_hX0_there : yX0_there.cls = RX0 ∧ yX0_there.cls ≠ "java/lang/invoke/MethodHandle" ∧ yX0_there.cls ≠ "java/lang/invoke/VarHandle" ∧ (parseMethodDescriptor yX0_there.desc).map (fun d => d.parameters.length) = some 3 := by decide +kernel
theorem aj_hX0_drop : yX0_drop.cls = RX0 ∧ yX0_drop.cls ≠ "java/lang/invoke/MethodHandle" ∧ yX0_drop.cls ≠ "java/lang/invoke/VarHandle" ∧ (parseMethodDescriptor yX0_drop.desc).map (fun d => d.parameters.length) = some 3 := by decide +kernel
theorem aj_hX0_clear : yX0_clear.cls = RX0 ∧ yX0_clear.cls ≠ "java/lang/invoke/MethodHandle" ∧ yX0_clear.cls ≠ "java/lang/invoke/VarHandle" ∧ (parseMethodDescriptor yX0_clear.desc).map (fun d => d.parameters.length) = some 1 := by decide +kernel
theorem aj_hX0_rows : yX0_rows.cls = RX0 ∧ yX0_rows.cls ≠ "java/lang/invoke/MethodHandle" ∧ yX0_rows.cls ≠ "java/lang/invoke/VarHandle" ∧ (parseMethodDescriptor yX0_rows.desc).map (fun d => d.parameters.length) = some 1 := by decide +kernel
theorem aj_hX0_count : yX0_count.cls = RX0 ∧ yX0_count.cls ≠ "java/lang/invoke/MethodHandle" ∧ yX0_count.cls ≠ "java/lang/invoke/VarHandle" ∧ (parseMethodDescriptor yX0_count.desc).map (fun d => d.parameters.length) = some 0 := by decide +kernel
theorem aj_hX0_pass : yX0_pass.cls = RX0 ∧ yX0_pass.cls ≠ "java/lang/invoke/MethodHandle" ∧ yX0_pass.cls ≠ "java/lang/invoke/VarHandle" ∧ (parseMethodDescriptor yX0_pass.desc).map (fun d => d.parameters.length) = some 0 := by decide +kernel
theorem aj_hX0_sizeOf : yX0_sizeOf.cls = RX0 ∧ yX0_sizeOf.cls ≠ "java/lang/invoke/MethodHandle" ∧ yX0_sizeOf.cls ≠ "java/lang/invoke/VarHandle" ∧ (parseMethodDescriptor yX0_sizeOf.desc).map (fun d => d.parameters.length) = some 1 := by decide +kernel
theorem aj_hX0_behind : yX0_behind.cls = RX0 ∧ yX0_behind.cls ≠ "java/lang/invoke/MethodHandle" ∧ yX0_behind.cls ≠ "java/lang/invoke/VarHandle" ∧ (parseMethodDescriptor yX0_behind.desc).map (fun d => d.parameters.length) = some 1 := by decide +kernel
theorem aj_hX0_answer : yX0_answer.cls = RX0 ∧ yX0_answer.cls ≠ "java/lang/invoke/MethodHandle" ∧ yX0_answer.cls ≠ "java/lang/invoke/VarHandle" ∧ (parseMethodDescriptor yX0_answer.desc).map (fun d => d.parameters.length) = some 1 := by decide +kernel
theorem aj_hX0_walk : yX0_walk.cls = RX0 ∧ yX0_walk.cls ≠ "java/lang/invoke/MethodHandle" ∧ yX0_walk.cls ≠ "java/lang/invoke/VarHandle" ∧ (parseMethodDescriptor yX0_walk.desc).map (fun d => d.parameters.length) = some 4 := by decide +kernel
theorem aj_hX0_has : yX0_has.cls = RX0 ∧ yX0_has.cls ≠ "java/lang/invoke/MethodHandle" ∧ yX0_has.cls ≠ "java/lang/invoke/VarHandle" ∧ (parseMethodDescriptor yX0_has.desc).map (fun d => d.parameters.length) = some 1 := by decide +kernel
theorem aj_hX0_badCode : yX0_badCode.cls = RX0 ∧ yX0_badCode.cls ≠ "java/lang/invoke/MethodHandle" ∧ yX0_badCode.cls ≠ "java/lang/invoke/VarHandle" ∧ (parseMethodDescriptor yX0_badCode.desc).map (fun d => d.parameters.length) = some 1 := by decide +kernel
theorem aj_hX0_rank : yX0_rank.cls = RX0 ∧ yX0_rank.cls ≠ "java/lang/invoke/MethodHandle" ∧ yX0_rank.cls ≠ "java/lang/invoke/VarHandle" ∧ (parseMethodDescriptor yX0_rank.desc).map (fun d => d.parameters.length) = some 1 := by decide +kernel
theorem aj_hX0_below : yX0_below.cls = RX0 ∧ yX0_below.cls ≠ "java/lang/invoke/MethodHandle" ∧ yX0_below.cls ≠ "java/lang/invoke/VarHandle" ∧ (parseMethodDescriptor yX0_below.desc).map (fun d => d.parameters.length) = some 5 := by decide +kernel
theorem aj_hX0_useful : yX0_useful.cls = RX0 ∧ yX0_useful.cls ≠ "java/lang/invoke/MethodHandle" ∧ yX0_useful.cls ≠ "java/lang/invoke/VarHandle" ∧ (parseMethodDescriptor yX0_useful.desc).map (fun d => d.parameters.length) = some 1 := by decide +kernel
theorem aj_hX0_share : yX0_share.cls = RX0 ∧ yX0_share.cls ≠ "java/lang/invoke/MethodHandle" ∧ yX0_share.cls ≠ "java/lang/invoke/VarHandle" ∧ (parseMethodDescriptor yX0_share.desc).map (fun d => d.parameters.length) = some 3 := by decide +kernel
theorem aj_hX0_weight : yX0_weight.cls = RX0 ∧ yX0_weight.cls ≠ "java/lang/invoke/MethodHandle" ∧ yX0_weight.cls ≠ "java/lang/invoke/VarHandle" ∧ (parseMethodDescriptor yX0_weight.desc).map (fun d => d.parameters.length) = some 3 := by decide +kernel
theorem aj_hX0_gain : yX0_gain.cls = RX0 ∧ yX0_gain.cls ≠ "java/lang/invoke/MethodHandle" ∧ yX0_gain.cls ≠ "java/lang/invoke/VarHandle" ∧ (parseMethodDescriptor yX0_gain.desc).map (fun d => d.parameters.length) = some 3 := by decide +kernel
theorem aj_hX0_values : yX0_values.cls = RX0 ∧ yX0_values.cls ≠ "java/lang/invoke/MethodHandle" ∧ yX0_values.cls ≠ "java/lang/invoke/VarHandle" ∧ (parseMethodDescriptor yX0_values.desc).map (fun d => d.parameters.length) = some 1 := by decide +kernel
theorem aj_hX0_inColumn : yX0_inColumn.cls = RX0 ∧ yX0_inColumn.cls ≠ "java/lang/invoke/MethodHandle" ∧ yX0_inColumn.cls ≠ "java/lang/invoke/VarHandle" ∧ (parseMethodDescriptor yX0_inColumn.desc).map (fun d => d.parameters.length) = some 2 := by decide +kernel
theorem aj_hX0_with : yX0_with.cls = RX0 ∧ yX0_with.cls ≠ "java/lang/invoke/MethodHandle" ∧ yX0_with.cls ≠ "java/lang/invoke/VarHandle" ∧ (parseMethodDescriptor yX0_with.desc).map (fun d => d.parameters.length) = some 2 := by decide +kernel
theorem aj_hX0_ends : yX0_ends.cls = RX0 ∧ yX0_ends.cls ≠ "java/lang/invoke/MethodHandle" ∧ yX0_ends.cls ≠ "java/lang/invoke/VarHandle" ∧ (parseMethodDescriptor yX0_ends.desc).map (fun d => d.parameters.length) = some 0 := by decide +kernel
theorem aj_hX0_endsOf : yX0_endsOf.cls = RX0 ∧ yX0_endsOf.cls ≠ "java/lang/invoke/MethodHandle" ∧ yX0_endsOf.cls ≠ "java/lang/invoke/VarHandle" ∧ (parseMethodDescriptor yX0_endsOf.desc).map (fun d => d.parameters.length) = some 1 := by decide +kernel
theorem aj_hX0_sum : yX0_sum.cls = RX0 ∧ yX0_sum.cls ≠ "java/lang/invoke/MethodHandle" ∧ yX0_sum.cls ≠ "java/lang/invoke/VarHandle" ∧ (parseMethodDescriptor yX0_sum.desc).map (fun d => d.parameters.length) = some 0 := by decide +kernel
theorem aj_hX1_put : yX1_put.cls = RX1 ∧ yX1_put.cls ≠ "java/lang/invoke/MethodHandle" ∧ yX1_put.cls ≠ "java/lang/invoke/VarHandle" ∧ (parseMethodDescriptor yX1_put.desc).map (fun d => d.parameters.length) = some 3 := by decide +kernel
theorem aj_hX1_isRow : yX1_isRow.cls = RX1 ∧ yX1_isRow.cls ≠ "java/lang/invoke/MethodHandle" ∧ yX1_isRow.cls ≠ "java/lang/invoke/VarHandle" ∧ (parseMethodDescriptor yX1_isRow.desc).map (fun d => d.parameters.length) = some 3 := by decide +kernel
theorem aj_hX1_isValue : yX1_isValue.cls = RX1 ∧ yX1_isValue.cls ≠ "java/lang/invoke/MethodHandle" ∧ yX1_isValue.cls ≠ "java/lang/invoke/VarHandle" ∧ (parseMethodDescriptor yX1_isValue.desc).map (fun d => d.parameters.length) = some 1 := by decide +kernel
theorem aj_hX1_drop : yX1_drop.cls = RX1 ∧ yX1_drop.cls ≠ "java/lang/invoke/MethodHandle" ∧ yX1_drop.cls ≠ "java/lang/invoke/VarHandle" ∧ (parseMethodDescriptor yX1_drop.desc).map (fun d => d.parameters.length) = some 3 := by decide +kernel
theorem aj_hX1_clear : yX1_clear.cls = RX1 ∧ yX1_clear.cls ≠ "java/lang/invoke/MethodHandle" ∧ yX1_clear.cls ≠ "java/lang/invoke/VarHandle" ∧ (parseMethodDescriptor yX1_clear.desc).map (fun d => d.parameters.length) = some 1 := by decide +kernel
theorem aj_hX1_rows : yX1_rows.cls = RX1 ∧ yX1_rows.cls ≠ "java/lang/invoke/MethodHandle" ∧ yX1_rows.cls ≠ "java/lang/invoke/VarHandle" ∧ (parseMethodDescriptor yX1_rows.desc).map (fun d => d.parameters.length) = some 1 := by decide +kernel
theorem aj_hX1_count : yX1_count.cls = RX1 ∧ yX1_count.cls ≠ "java/lang/invoke/MethodHandle" ∧ yX1_count.cls ≠ "java/lang/invoke/VarHandle" ∧ (parseMethodDescriptor yX1_count.desc).map (fun d => d.parameters.length) = some 0 := by decide +kernel
theorem aj_hX1_isAnswer : yX1_isAnswer.cls = RX1 ∧ yX1_isAnswer.cls ≠ "java/lang/invoke/MethodHandle" ∧ yX1_isAnswer.cls ≠ "java/lang/invoke/VarHandle" ∧ (parseMethodDescriptor yX1_isAnswer.desc).map (fun d => d.parameters.length) = some 1 := by decide +kernel
theorem aj_hX1_rowOf : yX1_rowOf.cls = RX1 ∧ yX1_rowOf.cls ≠ "java/lang/invoke/MethodHandle" ∧ yX1_rowOf.cls ≠ "java/lang/invoke/VarHandle" ∧ (parseMethodDescriptor yX1_rowOf.desc).map (fun d => d.parameters.length) = some 2 := by decide +kernel
theorem aj_hX1_valueIn : yX1_valueIn.cls = RX1 ∧ yX1_valueIn.cls ≠ "java/lang/invoke/MethodHandle" ∧ yX1_valueIn.cls ≠ "java/lang/invoke/VarHandle" ∧ (parseMethodDescriptor yX1_valueIn.desc).map (fun d => d.parameters.length) = some 2 := by decide +kernel
theorem aj_hX1_answer : yX1_answer.cls = RX1 ∧ yX1_answer.cls ≠ "java/lang/invoke/MethodHandle" ∧ yX1_answer.cls ≠ "java/lang/invoke/VarHandle" ∧ (parseMethodDescriptor yX1_answer.desc).map (fun d => d.parameters.length) = some 1 := by decide +kernel
theorem aj_hX1_code : yX1_code.cls = RX1 ∧ yX1_code.cls ≠ "java/lang/invoke/MethodHandle" ∧ yX1_code.cls ≠ "java/lang/invoke/VarHandle" ∧ (parseMethodDescriptor yX1_code.desc).map (fun d => d.parameters.length) = some 1 := by decide +kernel
theorem aj_hX1_has : yX1_has.cls = RX1 ∧ yX1_has.cls ≠ "java/lang/invoke/MethodHandle" ∧ yX1_has.cls ≠ "java/lang/invoke/VarHandle" ∧ (parseMethodDescriptor yX1_has.desc).map (fun d => d.parameters.length) = some 1 := by decide +kernel
theorem aj_hX1_isCode : yX1_isCode.cls = RX1 ∧ yX1_isCode.cls ≠ "java/lang/invoke/MethodHandle" ∧ yX1_isCode.cls ≠ "java/lang/invoke/VarHandle" ∧ (parseMethodDescriptor yX1_isCode.desc).map (fun d => d.parameters.length) = some 1 := by decide +kernel
theorem aj_hX1_number : yX1_number.cls = RX1 ∧ yX1_number.cls ≠ "java/lang/invoke/MethodHandle" ∧ yX1_number.cls ≠ "java/lang/invoke/VarHandle" ∧ (parseMethodDescriptor yX1_number.desc).map (fun d => d.parameters.length) = some 1 := by decide +kernel
theorem aj_hX1_rank : yX1_rank.cls = RX1 ∧ yX1_rank.cls ≠ "java/lang/invoke/MethodHandle" ∧ yX1_rank.cls ≠ "java/lang/invoke/VarHandle" ∧ (parseMethodDescriptor yX1_rank.desc).map (fun d => d.parameters.length) = some 1 := by decide +kernel
theorem aj_hX1_useful : yX1_useful.cls = RX1 ∧ yX1_useful.cls ≠ "java/lang/invoke/MethodHandle" ∧ yX1_useful.cls ≠ "java/lang/invoke/VarHandle" ∧ (parseMethodDescriptor yX1_useful.desc).map (fun d => d.parameters.length) = some 1 := by decide +kernel
theorem aj_hX1_countWith : yX1_countWith.cls = RX1 ∧ yX1_countWith.cls ≠ "java/lang/invoke/MethodHandle" ∧ yX1_countWith.cls ≠ "java/lang/invoke/VarHandle" ∧ (parseMethodDescriptor yX1_countWith.desc).map (fun d => d.parameters.length) = some 1 := by decide +kernel
theorem aj_hX1_weight : yX1_weight.cls = RX1 ∧ yX1_weight.cls ≠ "java/lang/invoke/MethodHandle" ∧ yX1_weight.cls ≠ "java/lang/invoke/VarHandle" ∧ (parseMethodDescriptor yX1_weight.desc).map (fun d => d.parameters.length) = some 3 := by decide +kernel
theorem aj_hX1_gain : yX1_gain.cls = RX1 ∧ yX1_gain.cls ≠ "java/lang/invoke/MethodHandle" ∧ yX1_gain.cls ≠ "java/lang/invoke/VarHandle" ∧ (parseMethodDescriptor yX1_gain.desc).map (fun d => d.parameters.length) = some 3 := by decide +kernel
theorem aj_hX1_values : yX1_values.cls = RX1 ∧ yX1_values.cls ≠ "java/lang/invoke/MethodHandle" ∧ yX1_values.cls ≠ "java/lang/invoke/VarHandle" ∧ (parseMethodDescriptor yX1_values.desc).map (fun d => d.parameters.length) = some 1 := by decide +kernel
theorem aj_hX1_countValue : yX1_countValue.cls = RX1 ∧ yX1_countValue.cls ≠ "java/lang/invoke/MethodHandle" ∧ yX1_countValue.cls ≠ "java/lang/invoke/VarHandle" ∧ (parseMethodDescriptor yX1_countValue.desc).map (fun d => d.parameters.length) = some 2 := by decide +kernel
theorem aj_hX1_with : yX1_with.cls = RX1 ∧ yX1_with.cls ≠ "java/lang/invoke/MethodHandle" ∧ yX1_with.cls ≠ "java/lang/invoke/VarHandle" ∧ (parseMethodDescriptor yX1_with.desc).map (fun d => d.parameters.length) = some 2 := by decide +kernel
theorem aj_hX1_ends : yX1_ends.cls = RX1 ∧ yX1_ends.cls ≠ "java/lang/invoke/MethodHandle" ∧ yX1_ends.cls ≠ "java/lang/invoke/VarHandle" ∧ (parseMethodDescriptor yX1_ends.desc).map (fun d => d.parameters.length) = some 0 := by decide +kernel
theorem aj_hX1_sum : yX1_sum.cls = RX1 ∧ yX1_sum.cls ≠ "java/lang/invoke/MethodHandle" ∧ yX1_sum.cls ≠ "java/lang/invoke/VarHandle" ∧ (parseMethodDescriptor yX1_sum.desc).map (fun d => d.parameters.length) = some 0 := by decide +kernel
theorem aj_gL_X0_put : GoodIn lw_all (wsV "AcyclicJoinsLaw" 13 RX0 yX0_put (ws_ yX0_put cX0_put 4 (some .int))) := lw_V q61 q62 q63 q22 q64
theorem aj_gL_X1_put : GoodIn lw_all (wsV "AcyclicJoinsLaw" 17 RX1 yX1_put (ws_ yX1_put cX1_put 4 (some .int))) := lw_V q183 q184 q185 q23 q186
theorem aj_gL_X0_drop : GoodIn lw_all (wsV "AcyclicJoinsLaw" 18 RX0 yX0_drop (ws_ yX0_drop cX0_drop 4 (some .int))) := lw_V q73 q74 q75 q22 q76
theorem aj_gL_X1_drop : GoodIn lw_all (wsV "AcyclicJoinsLaw" 21 RX1 yX1_drop (ws_ yX1_drop cX1_drop 4 (some .int))) := lw_V q195 q196 q197 q23 q198
theorem aj_gL_X0_clear : GoodIn lw_all (wsV "AcyclicJoinsLaw" 22 RX0 yX0_clear (ws_ yX0_clear cX0_clear 4 (some .int))) := lw_V q77 q78 q79 q22 q80
theorem aj_gL_X1_clear : GoodIn lw_all (wsV "AcyclicJoinsLaw" 26 RX1 yX1_clear (ws_ yX1_clear cX1_clear 4 (some .int))) := lw_V q199 q200 q201 q23 q202
theorem aj_gL_X0_rows : GoodIn lw_all (wsV "AcyclicJoinsLaw" 27 RX0 yX0_rows (ws_ yX0_rows cX0_rows 2 (some .int))) := lw_V q81 q82 q83 q22 q84
theorem aj_gL_X1_rows : GoodIn lw_all (wsV "AcyclicJoinsLaw" 30 RX1 yX1_rows (ws_ yX1_rows cX1_rows 2 (some .int))) := lw_V q203 q204 q205 q23 q206
theorem aj_gL_X0_count : GoodIn lw_all (wsV "AcyclicJoinsLaw" 31 RX0 yX0_count (ws_ yX0_count cX0_count 3 (some .int))) := lw_V q85 q86 q87 q22 q88
theorem aj_gL_X1_count : GoodIn lw_all (wsV "AcyclicJoinsLaw" 35 RX1 yX1_count (ws_ yX1_count cX1_count 3 (some .int))) := lw_V q207 q208 q209 q23 q210
theorem aj_gL_X0_answer : GoodIn lw_all (wsV "AcyclicJoinsLaw" 36 RX0 yX0_answer (ws_ yX0_answer cX0_answer 8 (some .int))) := lw_V q101 q102 q103 q22 q104
theorem aj_gL_X1_answer : GoodIn lw_all (wsV "AcyclicJoinsLaw" 39 RX1 yX1_answer (ws_ yX1_answer cX1_answer 4 (some .int))) := lw_V q224 q225 q226 q23 q227
theorem aj_gL_X0_has : GoodIn lw_all (wsV "AcyclicJoinsLaw" 40 RX0 yX0_has (ws_ yX0_has cX0_has 7 (some .boolean))) := lw_V q110 q111 q112 q22 q113
theorem aj_gL_X1_has : GoodIn lw_all (wsV "AcyclicJoinsLaw" 44 RX1 yX1_has (ws_ yX1_has cX1_has 3 (some .boolean))) := lw_V q232 q233 q234 q23 q235
theorem aj_gL_X0_rank : GoodIn lw_all (wsV "AcyclicJoinsLaw" 45 RX0 yX0_rank (ws_ yX0_rank cX0_rank 10 (some .int))) := lw_V q118 q119 q120 q22 q121
theorem aj_gL_X1_rank : GoodIn lw_all (wsV "AcyclicJoinsLaw" 48 RX1 yX1_rank (ws_ yX1_rank cX1_rank 5 (some .int))) := lw_V q244 q245 q246 q23 q247
theorem aj_gL_X0_useful : GoodIn lw_all (wsV "AcyclicJoinsLaw" 49 RX0 yX0_useful (ws_ yX0_useful cX0_useful 6 (some .int))) := lw_V q126 q127 q128 q22 q129
theorem aj_gL_X1_useful : GoodIn lw_all (wsV "AcyclicJoinsLaw" 52 RX1 yX1_useful (ws_ yX1_useful cX1_useful 4 (some .int))) := lw_V q248 q249 q250 q23 q251
theorem aj_gL_X0_weight : GoodIn lw_all (wsV "AcyclicJoinsLaw" 53 RX0 yX0_weight (ws_ yX0_weight cX0_weight 4 (some .int))) := lw_V q134 q135 q136 q22 q137
theorem aj_gL_X1_weight : GoodIn lw_all (wsV "AcyclicJoinsLaw" 56 RX1 yX1_weight (ws_ yX1_weight cX1_weight 4 (some .int))) := lw_V q256 q257 q258 q23 q259
theorem aj_gL_X0_gain : GoodIn lw_all (wsV "AcyclicJoinsLaw" 57 RX0 yX0_gain (ws_ yX0_gain cX0_gain 4 (some .int))) := lw_V q138 q139 q140 q22 q141
theorem aj_gL_X1_gain : GoodIn lw_all (wsV "AcyclicJoinsLaw" 60 RX1 yX1_gain (ws_ yX1_gain cX1_gain 6 (some .int))) := lw_V q260 q261 q262 q23 q263
theorem aj_gL_X0_values : GoodIn lw_all (wsV "AcyclicJoinsLaw" 61 RX0 yX0_values (ws_ yX0_values cX0_values 5 (some .int))) := lw_V q142 q143 q144 q22 q145
theorem aj_gL_X1_values : GoodIn lw_all (wsV "AcyclicJoinsLaw" 64 RX1 yX1_values (ws_ yX1_values cX1_values 4 (some .int))) := lw_V q264 q265 q266 q23 q267
theorem aj_gL_X0_with : GoodIn lw_all (wsV "AcyclicJoinsLaw" 65 RX0 yX0_with (ws_ yX0_with cX0_with 3 (some .int))) := lw_V q150 q151 q152 q22 q153
theorem aj_gL_X1_with : GoodIn lw_all (wsV "AcyclicJoinsLaw" 69 RX1 yX1_with (ws_ yX1_with cX1_with 3 (some .int))) := lw_V q272 q273 q274 q23 q275
theorem aj_gL_X0_ends : GoodIn lw_all (wsV "AcyclicJoinsLaw" 70 RX0 yX0_ends (ws_ yX0_ends cX0_ends 5 (some .int))) := lw_V q154 q155 q156 q22 q157
theorem aj_gL_X1_ends : GoodIn lw_all (wsV "AcyclicJoinsLaw" 73 RX1 yX1_ends (ws_ yX1_ends cX1_ends 4 (some .int))) := lw_V q276 q277 q278 q23 q279
theorem aj_gL_X0_sum : GoodIn lw_all (wsV "AcyclicJoinsLaw" 74 RX0 yX0_sum (ws_ yX0_sum cX0_sum 5 (some .int))) := lw_V q162 q163 q164 q22 q165
theorem aj_gL_X1_sum : GoodIn lw_all (wsV "AcyclicJoinsLaw" 77 RX1 yX1_sum (ws_ yX1_sum cX1_sum 3 (some .int))) := lw_V q280 q281 q282 q23 q283
theorem aj_gX0_X0_badRow : GoodIn lw_all (wsV RX0 31 RX0 yX0_badRow (ws_ yX0_badRow cX0_badRow 4 (some .boolean))) := lw_V q65 q67 qs0 q22 q68
theorem aj_gX0_X0_there : GoodIn lw_all (wsV RX0 35 RX0 yX0_there (ws_ yX0_there cX0_there 4 (some .boolean))) := lw_V q69 q71 qs1 q22 q72
theorem aj_gX0_X0_sizeOf : GoodIn lw_all (wsV RX0 42 RX0 yX0_sizeOf (ws_ yX0_sizeOf cX0_sizeOf 4 (some .int))) := lw_V q93 q95 qs3 q22 q96
theorem aj_gX0_X0_pass : GoodIn lw_all (wsV RX0 46 RX0 yX0_pass (ws_ yX0_pass cX0_pass 3 none)) := lw_V q89 q91 qs2 q22 q92
theorem aj_gX0_X0_behind : GoodIn lw_all (wsV RX0 49 RX0 yX0_behind (ws_ yX0_behind cX0_behind 2 (some .int))) := lw_V q97 q99 qs4 q22 q100
theorem aj_gX0_X0_count : GoodIn lw_all (wsV RX0 56 RX0 yX0_count (ws_ yX0_count cX0_count 3 (some .int))) := lw_V q105 q86 q87 q22 q88
theorem aj_gX0_X0_walk : GoodIn lw_all (wsV RX0 60 RX0 yX0_walk (ws_ yX0_walk cX0_walk 7 (some .int))) := lw_V q106 q108 qs5 q22 q109
theorem aj_gX0_X0_badCode : GoodIn lw_all (wsV RX0 64 RX0 yX0_badCode (ws_ yX0_badCode cX0_badCode 2 (some .boolean))) := lw_V q114 q116 qs6 q22 q117
theorem aj_gX0_X0_below : GoodIn lw_all (wsV RX0 68 RX0 yX0_below (ws_ yX0_below cX0_below 8 (some .int))) := lw_V q122 q124 qs7 q22 q125
theorem aj_gX0_X0_share : GoodIn lw_all (wsV RX0 72 RX0 yX0_share (ws_ yX0_share cX0_share 4 (some .int))) := lw_V q130 q132 qs8 q22 q133
theorem aj_gX0_X0_inColumn : GoodIn lw_all (wsV RX0 76 RX0 yX0_inColumn (ws_ yX0_inColumn cX0_inColumn 5 (some .int))) := lw_V q146 q148 qs9 q22 q149
theorem aj_gX0_X0_endsOf : GoodIn lw_all (wsV RX0 80 RX0 yX0_endsOf (ws_ yX0_endsOf cX0_endsOf 5 (some .int))) := lw_V q158 q160 qs10 q22 q161
theorem aj_gX1_X1_isValue : GoodIn lw_all (wsV RX1 20 RX1 yX1_isValue (ws_ yX1_isValue cX1_isValue 2 (some .boolean))) := lw_V q191 q193 qs12 q23 q194
theorem aj_gX1_X1_isRow : GoodIn lw_all (wsV RX1 24 RX1 yX1_isRow (ws_ yX1_isRow cX1_isRow 4 (some .boolean))) := lw_V q187 q189 qs11 q23 q190
theorem aj_gX1_X1_valueIn : GoodIn lw_all (wsV RX1 28 RX1 yX1_valueIn (ws_ yX1_valueIn cX1_valueIn 3 (some .int))) := lw_V q220 q222 qs15 q23 q223
theorem aj_gX1_X1_rowOf : GoodIn lw_all (wsV RX1 32 RX1 yX1_rowOf (ws_ yX1_rowOf cX1_rowOf 5 (some .int))) := lw_V q216 q218 qs14 q23 q219
theorem aj_gX1_X1_isAnswer : GoodIn lw_all (wsV RX1 36 RX1 yX1_isAnswer (ws_ yX1_isAnswer cX1_isAnswer 2 (some .boolean))) := lw_V q212 q214 qs13 q23 q215
theorem aj_gX1_X1_code : GoodIn lw_all (wsV RX1 39 RX1 yX1_code (ws_ yX1_code cX1_code 4 (some .int))) := lw_V q228 q230 qs16 q23 q231
theorem aj_gX1_X1_isCode : GoodIn lw_all (wsV RX1 43 RX1 yX1_isCode (ws_ yX1_isCode cX1_isCode 2 (some .boolean))) := lw_V q236 q238 qs17 q23 q239
theorem aj_gX1_X1_number : GoodIn lw_all (wsV RX1 46 RX1 yX1_number (ws_ yX1_number cX1_number 4 (some .int))) := lw_V q240 q242 qs18 q23 q243
theorem aj_gX1_X1_countWith : GoodIn lw_all (wsV RX1 49 RX1 yX1_countWith (ws_ yX1_countWith cX1_countWith 4 (some .int))) := lw_V q252 q254 qs19 q23 q255
theorem aj_gX1_X1_countValue : GoodIn lw_all (wsV RX1 52 RX1 yX1_countValue (ws_ yX1_countValue cX1_countValue 5 (some .int))) := lw_V q268 q270 qs20 q23 q271
end
end
section
/-! own rows over the kit's: numbers as nI of naturals, branches on naturals, calls in one row -/
section
variable {p : Program} {l : Launch} {e : Env} {R : Room} {s : State} {m : MethodId} {args : Array Value} {below : List Frame} {meth : Method} {c : Code} {H : Heap} {locs : List Loc} {cells slots : Nat} {Q : State → Prop}
variable {cc : ByteArray} {pc : Nat} {ls : Array Slot} {rest : List Value}
theorem aj_top {x y : Int32} (h : x = y) (k : W p l e R s m args below meth c H locs cells slots Q (F0 m pc ls (.int y :: rest))) : W p l e R s m args below meth c H locs cells slots Q (F0 m pc ls (.int x :: rest)) := by
  rw [h]
  exact k
theorem aj_iadd (hx : p.tables.exec = Jvm.exec) (hb : c.code = cc) {a b : Nat} (hdg : decode cc pc = .ok (.iadd, 1)) (k : W p l e R s m args below meth c H locs cells slots Q (F0 m (pc + 1) ls (.int (nI (a + b)) :: rest))) : W p l e R s m args below meth c H locs cells slots Q (F0 m pc ls (.int (nI b) :: .int (nI a) :: rest)) := by
  refine lv_iadd hx hb hdg ?_
  rw [nI_add]
  exact k
theorem aj_imul (hx : p.tables.exec = Jvm.exec) (hb : c.code = cc) {a b : Nat} (hdg : decode cc pc = .ok (.imul, 1)) (k : W p l e R s m args below meth c H locs cells slots Q (F0 m (pc + 1) ls (.int (nI (a * b)) :: rest))) : W p l e R s m args below meth c H locs cells slots Q (F0 m pc ls (.int (nI b) :: .int (nI a) :: rest)) := by
  refine lv_imul hx hb hdg ?_
  rw [pk_mul]
  exact k
theorem aj_isub (hx : p.tables.exec = Jvm.exec) (hb : c.code = cc) {a b : Nat} (h : b ≤ a) (hdg : decode cc pc = .ok (.isub, 1)) (k : W p l e R s m args below meth c H locs cells slots Q (F0 m (pc + 1) ls (.int (nI (a - b)) :: rest))) : W p l e R s m args below meth c H locs cells slots Q (F0 m pc ls (.int (nI b) :: .int (nI a) :: rest)) := by
  refine lv_isub hx hb hdg ?_
  rw [pk_sub h]
  exact k
theorem aj_ge (hx : p.tables.exec = Jvm.exec) (hb : c.code = cc) {a b : Nat} {off : Int} {tgt : Nat} (h1 : a < 2 ^ 31) (h2 : b < 2 ^ 31) (hdg : decode cc pc = .ok (.if_icmp .ge off, 3)) (ht : (pc : Int) + off = (tgt : Int)) (kt : b ≤ a → W p l e R s m args below meth c H locs cells slots Q (F0 m tgt ls (rest))) (kf : a < b → W p l e R s m args below meth c H locs cells slots Q (F0 m (pc + 3) ls (rest))) : W p l e R s m args below meth c H locs cells slots Q (F0 m pc ls (.int (nI b) :: .int (nI a) :: rest)) :=
  lv_icmp_ge hx hb hdg ht (fun q => kt ((nI_leI h2 h1).mp q)) (fun q => kf (Nat.lt_of_not_le (fun z => q ((nI_leI h2 h1).mpr z))))
theorem aj_gt (hx : p.tables.exec = Jvm.exec) (hb : c.code = cc) {a b : Nat} {off : Int} {tgt : Nat} (h1 : a < 2 ^ 31) (h2 : b < 2 ^ 31) (hdg : decode cc pc = .ok (.if_icmp .gt off, 3)) (ht : (pc : Int) + off = (tgt : Int)) (kt : b < a → W p l e R s m args below meth c H locs cells slots Q (F0 m tgt ls (rest))) (kf : a ≤ b → W p l e R s m args below meth c H locs cells slots Q (F0 m (pc + 3) ls (rest))) : W p l e R s m args below meth c H locs cells slots Q (F0 m pc ls (.int (nI b) :: .int (nI a) :: rest)) :=
  lv_icmp_gt hx hb hdg ht (fun q => kt ((nI_ltI h2 h1).mp q)) (fun q => kf (Nat.le_of_not_lt (fun z => q ((nI_ltI h2 h1).mpr z))))
theorem aj_lt (hx : p.tables.exec = Jvm.exec) (hb : c.code = cc) {a b : Nat} {off : Int} {tgt : Nat} (h1 : a < 2 ^ 31) (h2 : b < 2 ^ 31) (hdg : decode cc pc = .ok (.if_icmp .lt off, 3)) (ht : (pc : Int) + off = (tgt : Int)) (kt : a < b → W p l e R s m args below meth c H locs cells slots Q (F0 m tgt ls (rest))) (kf : b ≤ a → W p l e R s m args below meth c H locs cells slots Q (F0 m (pc + 3) ls (rest))) : W p l e R s m args below meth c H locs cells slots Q (F0 m pc ls (.int (nI b) :: .int (nI a) :: rest)) :=
  lv_icmp_lt hx hb hdg ht (fun q => kt ((nI_ltI h1 h2).mp q)) (fun q => kf (Nat.le_of_not_lt (fun z => q ((nI_ltI h1 h2).mpr z))))
theorem aj_le (hx : p.tables.exec = Jvm.exec) (hb : c.code = cc) {a b : Nat} {off : Int} {tgt : Nat} (h1 : a < 2 ^ 31) (h2 : b < 2 ^ 31) (hdg : decode cc pc = .ok (.if_icmp .le off, 3)) (ht : (pc : Int) + off = (tgt : Int)) (kt : a ≤ b → W p l e R s m args below meth c H locs cells slots Q (F0 m tgt ls (rest))) (kf : b < a → W p l e R s m args below meth c H locs cells slots Q (F0 m (pc + 3) ls (rest))) : W p l e R s m args below meth c H locs cells slots Q (F0 m pc ls (.int (nI b) :: .int (nI a) :: rest)) :=
  lv_icmp_le hx hb hdg ht (fun q => kt ((nI_leI h1 h2).mp q)) (fun q => kf (Nat.lt_of_not_le (fun z => q ((nI_leI h1 h2).mpr z))))
theorem aj_eq (hx : p.tables.exec = Jvm.exec) (hb : c.code = cc) {a b : Nat} {off : Int} {tgt : Nat} (h1 : a < 2 ^ 31) (h2 : b < 2 ^ 31) (hdg : decode cc pc = .ok (.if_icmp .eq off, 3)) (ht : (pc : Int) + off = (tgt : Int)) (kt : a = b → W p l e R s m args below meth c H locs cells slots Q (F0 m tgt ls (rest))) (kf : ¬ a = b → W p l e R s m args below meth c H locs cells slots Q (F0 m (pc + 3) ls (rest))) : W p l e R s m args below meth c H locs cells slots Q (F0 m pc ls (.int (nI b) :: .int (nI a) :: rest)) :=
  lv_icmp_eq hx hb hdg ht (fun q => kt ((nI_eq h1 h2).mp q)) (fun q => kf ((fun z => q ((nI_eq h1 h2).mpr z))))
theorem aj_ne (hx : p.tables.exec = Jvm.exec) (hb : c.code = cc) {a b : Nat} {off : Int} {tgt : Nat} (h1 : a < 2 ^ 31) (h2 : b < 2 ^ 31) (hdg : decode cc pc = .ok (.if_icmp .ne off, 3)) (ht : (pc : Int) + off = (tgt : Int)) (kt : ¬ a = b → W p l e R s m args below meth c H locs cells slots Q (F0 m tgt ls (rest))) (kf : a = b → W p l e R s m args below meth c H locs cells slots Q (F0 m (pc + 3) ls (rest))) : W p l e R s m args below meth c H locs cells slots Q (F0 m pc ls (.int (nI b) :: .int (nI a) :: rest)) :=
  lv_icmp_ne hx hb hdg ht (fun q => kt ((fun z => q ((nI_eq h1 h2).mpr z)))) (fun q => kf ((nI_eq h1 h2).mp q))
theorem aj_iflt (hx : p.tables.exec = Jvm.exec) (hb : c.code = cc) {a : Nat} {off : Int} {tgt : Nat} (h1 : a < 2 ^ 31) (hdg : decode cc pc = .ok (.ifCond .lt off, 3)) (ht : (pc : Int) + off = (tgt : Int)) (kf : W p l e R s m args below meth c H locs cells slots Q (F0 m (pc + 3) ls (rest))) : W p l e R s m args below meth c H locs cells slots Q (F0 m pc ls (.int (nI a) :: rest)) :=
  lv_if_lt hx hb hdg ht (fun q => absurd q (nI_pos h1)) (fun _ => kf)
theorem aj_ifge (hx : p.tables.exec = Jvm.exec) (hb : c.code = cc) {a : Nat} {off : Int} {tgt : Nat} (h1 : a < 2 ^ 31) (hdg : decode cc pc = .ok (.ifCond .ge off, 3)) (ht : (pc : Int) + off = (tgt : Int)) (kt : W p l e R s m args below meth c H locs cells slots Q (F0 m tgt ls (rest))) : W p l e R s m args below meth c H locs cells slots Q (F0 m pc ls (.int (nI a) :: rest)) :=
  lv_if_ge hx hb hdg ht (fun _ => kt) (fun q => absurd (nI_pos' h1) q)
theorem aj_ifle (hx : p.tables.exec = Jvm.exec) (hb : c.code = cc) {a : Nat} {off : Int} {tgt : Nat} (h1 : a < 2 ^ 31) (hdg : decode cc pc = .ok (.ifCond .le off, 3)) (ht : (pc : Int) + off = (tgt : Int)) (kt : a = 0 → W p l e R s m args below meth c H locs cells slots Q (F0 m tgt ls (rest))) (kf : 0 < a → W p l e R s m args below meth c H locs cells slots Q (F0 m (pc + 3) ls (rest))) : W p l e R s m args below meth c H locs cells slots Q (F0 m pc ls (.int (nI a) :: rest)) :=
  lv_if_le hx hb hdg ht (fun q => kt (by rcases Nat.eq_zero_or_pos a with h | h; exact h; exact absurd q (nI_nle h h1))) (fun q => kf (by rcases Nat.eq_zero_or_pos a with h | h; exact absurd (by rw [h, nI_0]; decide) q; exact h))
theorem aj_ifeq (hx : p.tables.exec = Jvm.exec) (hb : c.code = cc) {a : Nat} {off : Int} {tgt : Nat} (h1 : a < 2 ^ 31) (hdg : decode cc pc = .ok (.ifCond .eq off, 3)) (ht : (pc : Int) + off = (tgt : Int)) (kt : a = 0 → W p l e R s m args below meth c H locs cells slots Q (F0 m tgt ls (rest))) (kf : ¬ a = 0 → W p l e R s m args below meth c H locs cells slots Q (F0 m (pc + 3) ls (rest))) : W p l e R s m args below meth c H locs cells slots Q (F0 m pc ls (.int (nI a) :: rest)) :=
  lv_if_eq hx hb hdg ht (fun q => kt (by rcases Nat.eq_zero_or_pos a with h | h; exact h; exact absurd q (nI_ne0 h h1))) (fun q => kf (fun h => q (by rw [h, nI_0])))
theorem aj_ifne (hx : p.tables.exec = Jvm.exec) (hb : c.code = cc) {a : Nat} {off : Int} {tgt : Nat} (h1 : a < 2 ^ 31) (hdg : decode cc pc = .ok (.ifCond .ne off, 3)) (ht : (pc : Int) + off = (tgt : Int)) (kt : ¬ a = 0 → W p l e R s m args below meth c H locs cells slots Q (F0 m tgt ls (rest))) (kf : a = 0 → W p l e R s m args below meth c H locs cells slots Q (F0 m (pc + 3) ls (rest))) : W p l e R s m args below meth c H locs cells slots Q (F0 m pc ls (.int (nI a) :: rest)) :=
  lv_if_ne hx hb hdg ht (fun q => kt (fun h => q (by rw [h, nI_0]))) (fun q => kf (by rcases Nat.eq_zero_or_pos a with h | h; exact h; exact absurd q (nI_ne0 h h1)))
theorem aj_B0 : ∀ {b : Bool}, nI b.toNat = 0 → b = false
  | false, _ => rfl
  | true, h => absurd h (by decide)
theorem aj_B1 : ∀ {b : Bool}, ¬ nI b.toNat = 0 → b = true
  | true, _ => rfl
  | false, h => absurd (by decide) h
theorem aj_ifeqB (hx : p.tables.exec = Jvm.exec) (hb : c.code = cc) {b : Bool} {off : Int} {tgt : Nat} (hdg : decode cc pc = .ok (.ifCond .eq off, 3)) (ht : (pc : Int) + off = (tgt : Int)) (kt : b = false → W p l e R s m args below meth c H locs cells slots Q (F0 m tgt ls (rest))) (kf : b = true → W p l e R s m args below meth c H locs cells slots Q (F0 m (pc + 3) ls (rest))) : W p l e R s m args below meth c H locs cells slots Q (F0 m pc ls (.int (nI b.toNat) :: rest)) :=
  lv_if_eq hx hb hdg ht (fun q => kt (aj_B0 q)) (fun q => kf (aj_B1 q))
theorem aj_ifneB (hx : p.tables.exec = Jvm.exec) (hb : c.code = cc) {b : Bool} {off : Int} {tgt : Nat} (hdg : decode cc pc = .ok (.ifCond .ne off, 3)) (ht : (pc : Int) + off = (tgt : Int)) (kt : b = true → W p l e R s m args below meth c H locs cells slots Q (F0 m tgt ls (rest))) (kf : b = false → W p l e R s m args below meth c H locs cells slots Q (F0 m (pc + 3) ls (rest))) : W p l e R s m args below meth c H locs cells slots Q (F0 m pc ls (.int (nI b.toNat) :: rest)) :=
  lv_if_ne hx hb hdg ht (fun q => kt (aj_B1 q)) (fun q => kf (aj_B0 q))
theorem aj_ldc (hx : p.tables.exec = Jvm.exec) (hb : c.code = cc) {own : String} {index n : Nat} {v : Int32} (hown : s.vm.findClass own = some m.cls) (hc : (Jvm.Cond.constant own index v).before args s = true) (hv : v = nI n) (hdg : decode cc pc = .ok (.ldc index, 2)) (k : W p l e R s m args below meth c H locs cells slots Q (F0 m (pc + 2) ls (.int (nI n) :: rest))) : W p l e R s m args below meth c H locs cells slots Q (F0 m pc ls (rest)) :=
  lv_ldc hx hb hown hc hdg (by rw [hv]; exact k)
variable {D : va_G} {cl : List vw_C} {tys : List (ClassId × FieldType)} {ws : va_W} {a : Nat} {A : Nat → Prop} {H0 : Heap}
theorem aj_iald (hx : p.tables.exec = Jvm.exec) (hb : c.code = cc) (hK : va_K D cl tys s) (hP : va_P D cl ws H) (q0 t0 : Nat) {cA : ClassId} {n : Nat} {f : Nat → Int32} {i : Nat} {y : Int32} (ha : ws[q0]? = some (a, .inl (cA, n, .inl f))) (ht : tys[t0]? = some (cA, .int)) (hi : i < n) (hn : n < 2 ^ 31) (hv : f i = y) (hdg : decode cc pc = .ok (.iaload, 1)) (k : W p l e R s m args below meth c H locs cells slots Q (F0 m (pc + 1) ls (.int y :: rest))) : W p l e R s m args below meth c H locs cells slots Q (F0 m pc ls (.int (nI i) :: .ref a :: rest)) := by
  refine va_iald hx hb hK hP q0 t0 ha ht (vp_in_nI hi hn) hdg ?_
  rw [nI_clamp (Nat.lt_trans hi hn), hv]
  exact k
theorem aj_zald (hx : p.tables.exec = Jvm.exec) (hb : c.code = cc) (hK : va_K D cl tys s) (hP : va_P D cl ws H) (q0 t0 : Nat) {cA : ClassId} {n : Nat} {f : Nat → Int32} {i : Nat} {y : Int32} (ha : ws[q0]? = some (a, .inl (cA, n, .inl f))) (ht : tys[t0]? = some (cA, .boolean)) (hi : i < n) (hn : n < 2 ^ 31) (hv : f i = y) (hdg : decode cc pc = .ok (.baload, 1)) (k : W p l e R s m args below meth c H locs cells slots Q (F0 m (pc + 1) ls (.int y :: rest))) : W p l e R s m args below meth c H locs cells slots Q (F0 m pc ls (.int (nI i) :: .ref a :: rest)) := by
  refine va_zald hx hb hK hP q0 t0 ha ht (vp_in_nI hi hn) hdg ?_
  rw [nI_clamp (Nat.lt_trans hi hn), hv]
  exact k
theorem aj_iast (hx : p.tables.exec = Jvm.exec) (hb : c.code = cc) (hK : va_K D cl tys s) (hP : va_P D cl ws H) (hD : va_D A ws) (hS : va_S A H0 H locs) (q0 t0 : Nat) {cA : ClassId} {n : Nat} {f : Nat → Int32} {i : Nat} {x : Int32} (ha : ws[q0]? = some (a, .inl (cA, n, .inl f))) (ht : tys[t0]? = some (cA, .int)) (hi : i < n) (hn : n < 2 ^ 31) (hdg : decode cc pc = .ok (.iastore, 1)) (kk : ∀ (H1 : Heap) (locs1 : List Loc), va_P D cl (ws.set q0 (a, .inl (cA, n, .inl (upd f i x)))) H1 → va_S A H0 H1 locs1 → W p l e R s m args below meth c H1 locs1 cells slots Q (F0 m (pc + 1) ls rest)) : W p l e R s m args below meth c H locs cells slots Q (F0 m pc ls (.int x :: .int (nI i) :: .ref a :: rest)) := by
  refine va_iast hx hb hK hP hD hS q0 t0 ha ht (vp_in_nI hi hn) hdg (fun H1 locs1 h1 _ h3 => ?_)
  rw [nI_clamp (Nat.lt_trans hi hn)] at h1
  exact kk H1 locs1 h1 h3
theorem aj_zast (hx : p.tables.exec = Jvm.exec) (hb : c.code = cc) (hK : va_K D cl tys s) (hP : va_P D cl ws H) (hD : va_D A ws) (hS : va_S A H0 H locs) (q0 t0 : Nat) {cA : ClassId} {n : Nat} {f : Nat → Int32} {i : Nat} {x : Int32} (ha : ws[q0]? = some (a, .inl (cA, n, .inl f))) (ht : tys[t0]? = some (cA, .boolean)) (hi : i < n) (hn : n < 2 ^ 31) (hx1 : vp_nar .boolean x = x) (hdg : decode cc pc = .ok (.bastore, 1)) (kk : ∀ (H1 : Heap) (locs1 : List Loc), va_P D cl (ws.set q0 (a, .inl (cA, n, .inl (upd f i x)))) H1 → va_S A H0 H1 locs1 → W p l e R s m args below meth c H1 locs1 cells slots Q (F0 m (pc + 1) ls rest)) : W p l e R s m args below meth c H locs cells slots Q (F0 m pc ls (.int x :: .int (nI i) :: .ref a :: rest)) := by
  refine va_zast hx hb hK hP hD hS q0 t0 ha ht (vp_in_nI hi hn) hdg (fun H1 locs1 h1 _ h3 => ?_)
  rw [nI_clamp (Nat.lt_trans hi hn), hx1] at h1
  exact kk H1 locs1 h1 h3
variable {y : MethodName} {bytes : ByteArray} {maxL nL index n : Nat} {ret : Option FieldType} {rmc : Room} {own C : String} {b : Addr} {As st0 : List Value} {A1 : Nat → Prop}
theorem aj_blind (av : List Value) (pre : Heap → Prop) : FrameBlind (va_Pc av (fun U => pre U.heap ∧ va_K D cl tys U)) := fun a U g mk q => by
  obtain ⟨q0, q1, q2⟩ := q
  exact ⟨q0, q1, va_K.moved (u := U) (U := U.calling g mk a) (Vm.Alike.refl U.vm) q2⟩
theorem aj_callR {pre : Heap → Prop} {val : Int32} (F : CallFix p m c cc nL s args lw_all own) (hM : Met l y (ws_ y bytes maxL ret) rmc (va_Pc (.ref b :: As) (fun U => pre U.heap ∧ va_K D cl tys U)) (vp_Si (fun r => r = val)) 0 0 (fun _ => False)) (hG : GoodIn lw_all (wsV own index C y (ws_ y bytes maxL ret))) (hd : y.cls = C ∧ y.cls ≠ "java/lang/invoke/MethodHandle" ∧ y.cls ≠ "java/lang/invoke/VarHandle" ∧ (parseMethodDescriptor y.desc).map (fun d => d.parameters.length) = some n) (hR : rmc.frames + 1 ≤ R.frames ∧ 8 + (maxL + 11) + rmc.locals ≤ R.locals) (hc0 : rmc.cells = 0) (hs0 : rmc.slots = 0) (hK : va_K D cl tys s) (hp : pre H) (hrv : ∃ cell : Cell, H[b]? = some cell ∧ cell.vm.isStatics = false ∧ s.vm.findClass C = some cell.cls) (hn : As.length = n) (hl : ls.size = nL) (hst : st0 = As.reverse ++ .ref b :: rest) (hrm : (rest.map fun v => v.category).sum ≤ 8) (hcs : cells ≤ R.cells ∧ slots ≤ R.slots) (hdg : decode cc pc = .ok (.invokevirtual index, 3)) (kk : W p l e R s m args below meth c H locs cells slots Q (F0 m (pc + 3) ls (.int val :: rest))) : W p l e R s m args below meth c H locs cells slots Q (F0 m pc ls (st0)) := by
  refine vp_callSi (rest := rest) (va_Run.run (va_runV (As := As) (rest := rest) (b := b) F hM (cwV n F.2.2.2.2 hG rfl hc0 hs0 hd hR) ⟨aj_blind _ _, hrv, fun U hU hW => ⟨rfl, by rw [hU]; exact hp, va_K.moved hW.alike hK⟩⟩ rfl hn hl hst (lv_room hrm) hdg hcs)) (fun r hr => ?_)
  rw [hr]
  exact kk
theorem aj_callW {pre : Heap → Prop} {Post : Int32 → Heap → Prop} (F : CallFix p m c cc nL s args lw_all own) (hM : Met l y (ws_ y bytes maxL ret) rmc (va_Pc (.ref b :: As) (fun U => pre U.heap ∧ va_K D cl tys U)) (va_Qi (fun r u => u = r) (fun u t => Post u t.heap) A1) 0 0 A1) (hG : GoodIn lw_all (wsV own index C y (ws_ y bytes maxL ret))) (hd : y.cls = C ∧ y.cls ≠ "java/lang/invoke/MethodHandle" ∧ y.cls ≠ "java/lang/invoke/VarHandle" ∧ (parseMethodDescriptor y.desc).map (fun d => d.parameters.length) = some n) (hR : rmc.frames + 1 ≤ R.frames ∧ 8 + (maxL + 11) + rmc.locals ≤ R.locals) (hc0 : rmc.cells = 0) (hs0 : rmc.slots = 0) (hK : va_K D cl tys s) (hp : pre H) (hrv : ∃ cell : Cell, H[b]? = some cell ∧ cell.vm.isStatics = false ∧ s.vm.findClass C = some cell.cls) (hn : As.length = n) (hl : ls.size = nL) (hst : st0 = As.reverse ++ .ref b :: rest) (hrm : (rest.map fun v => v.category).sum ≤ 8) (hcs : cells ≤ R.cells ∧ slots ≤ R.slots) (hdg : decode cc pc = .ok (.invokevirtual index, 3)) (hS : va_S A H0 H locs) (hA : ∀ q, A1 q → A q) (kk : ∀ (r : Int32) (H1 : Heap) (locs1 : List Loc), Post r H1 → H.size ≤ H1.size → (∀ q : Nat, q < H.size → ¬ A1 q → H1[q]? = H[q]?) → va_S A H0 H1 locs1 → W p l e R s m args below meth c H1 locs1 cells slots Q (F0 m (pc + 3) ls (.int r :: rest))) : W p l e R s m args below meth c H locs cells slots Q (F0 m pc ls (st0)) := by
  refine va_calli (rest := rest) (va_runV (As := As) (rest := rest) (b := b) F hM (cwV n F.2.2.2.2 hG rfl hc0 hs0 hd hR) ⟨aj_blind _ _, hrv, fun U hU hW => ⟨rfl, by rw [hU]; exact hp, va_K.moved hW.alike hK⟩⟩ rfl hn hl hst (lv_room hrm) hdg hcs) hS (fun q _ h => hA q h) hA (fun r u t H1 locs1 ht hvm hw hB hz hk hS => ?_)
  rw [ht] at hB
  rw [hw] at hB
  exact kk r H1 locs1 hB hz hk hS
theorem aj_callV {pre : Heap → Prop} {Post : Heap → Prop} (F : CallFix p m c cc nL s args lw_all own) (hM : Met l y (ws_ y bytes maxL ret) rmc (va_Pc (.ref b :: As) (fun U => pre U.heap ∧ va_K D cl tys U)) (va_Qv (fun _ : Unit => True) (fun _ t => Post t.heap) A1) 0 0 A1) (hG : GoodIn lw_all (wsV own index C y (ws_ y bytes maxL ret))) (hd : y.cls = C ∧ y.cls ≠ "java/lang/invoke/MethodHandle" ∧ y.cls ≠ "java/lang/invoke/VarHandle" ∧ (parseMethodDescriptor y.desc).map (fun d => d.parameters.length) = some n) (hR : rmc.frames + 1 ≤ R.frames ∧ 8 + (maxL + 11) + rmc.locals ≤ R.locals) (hc0 : rmc.cells = 0) (hs0 : rmc.slots = 0) (hK : va_K D cl tys s) (hp : pre H) (hrv : ∃ cell : Cell, H[b]? = some cell ∧ cell.vm.isStatics = false ∧ s.vm.findClass C = some cell.cls) (hn : As.length = n) (hl : ls.size = nL) (hst : st0 = As.reverse ++ .ref b :: rest) (hrm : (rest.map fun v => v.category).sum ≤ 8) (hcs : cells ≤ R.cells ∧ slots ≤ R.slots) (hdg : decode cc pc = .ok (.invokevirtual index, 3)) (hS : va_S A H0 H locs) (hA : ∀ q, A1 q → A q) (kk : ∀ (H1 : Heap) (locs1 : List Loc), Post H1 → H.size ≤ H1.size → (∀ q : Nat, q < H.size → ¬ A1 q → H1[q]? = H[q]?) → va_S A H0 H1 locs1 → W p l e R s m args below meth c H1 locs1 cells slots Q (F0 m (pc + 3) ls rest)) : W p l e R s m args below meth c H locs cells slots Q (F0 m pc ls (st0)) := by
  refine va_callv (rest := rest) (va_runV (As := As) (rest := rest) (b := b) F hM (cwV n F.2.2.2.2 hG rfl hc0 hs0 hd hR) ⟨aj_blind _ _, hrv, fun U hU hW => ⟨rfl, by rw [hU]; exact hp, va_K.moved hW.alike hK⟩⟩ rfl hn hl hst (lv_room hrm) hdg hcs) hS (fun q _ h => hA q h) hA (fun u t H1 locs1 ht hvm hw hB hz hk hS => ?_)
  rw [ht] at hB
  exact kk H1 locs1 hB hz hk hS
end
section
variable {l : Launch} {y : MethodName} {cc : ByteArray} {maxL : Nat} {rt : FieldType} {rm : Room} {av : List Value} {D : va_G} {cl : List vw_C} {tys : List (ClassId × FieldType)}
/-- a method that only reads and answers an int -/
theorem aj_ro {pre : Heap → Prop} {post : Int32 → Prop} (own : String) (hy : plainName y.cls = true) (ho : y.cls = own) (hsz : (lg_sl av).length ≤ maxL) (hnar : ∀ v, post v → narrow rt (.int v) = .int v) (body : ∀ (p : Program) (e : Env) (s : State) (m : MethodId) (args : Array Value) (below : List Frame) (meth : Method) (c : Code) (ls : Array Slot) (Q : State → Prop), CallFix p m c cc maxL s args lw_all own → va_K D cl tys s → pre s.heap → lv_has ls maxL (lv_args 0 av) → (∀ (v : Int32) (pc : Nat) (ls' : Array Slot), decode cc pc = .ok (.ireturn, 1) → post v → W p l e rm s m args below meth c s.heap [] 0 0 Q (F0 m pc ls' [.int v])) → W p l e rm s m args below meth c s.heap [] 0 0 Q (F0 m 0 ls [])) : Met l y (ws_ y cc maxL (some rt)) rm (va_Pc av (fun U => pre U.heap ∧ va_K D cl tys U)) (vp_Si post) 0 0 (fun _ => False) := by
  refine Met.ofW (cc := cc) (maxL := maxL) (ret := some rt) hy rfl ?_
  intro p e s m args below meth c s₁ B hml hv
  obtain ⟨rfl, hP, hK⟩ := hv
  have hts0 := atoms_spec (ws := ws_ y cc maxL (some rt)) B.pre
  have hts : ∀ w ∈ lw_all, w.before _ s = true := fun w h => hts0 w (List.mem_cons_of_mem _ h)
  have hown : s.vm.findClass own = some m.cls := ho ▸ findClass_of_methodNamed B.named
  have hl := lv_entry av (n := maxL) hsz
  rw [lg_entry_eq]
  have hlocks := B.notSynchronized
  refine body p e s m _ below meth c _ _ ⟨B.exec, B.bytes, hml, hown, hts⟩ hK hP hl (fun v pc ls' hd hp => ?_)
  exact W.zret B.exec B.bytes B.returns (hnar v hp) (fun t ht hW => ⟨v, rfl, hp, ht⟩) (fun q h => by cases h) hd
/-- a method that may write the cells of A and answers an int -/
theorem aj_rw {pre : Heap → Prop} {Post : Int32 → Heap → Prop} (A : Nat → Prop) (own : String) (hy : plainName y.cls = true) (ho : y.cls = own) (hsz : (lg_sl av).length ≤ maxL) (hnar : ∀ v H, Post v H → narrow rt (.int v) = .int v) (body : ∀ (p : Program) (e : Env) (s : State) (m : MethodId) (args : Array Value) (below : List Frame) (meth : Method) (c : Code) (ls : Array Slot) (Q : State → Prop), CallFix p m c cc maxL s args lw_all own → va_K D cl tys s → pre s.heap → lv_has ls maxL (lv_args 0 av) → (∀ (v : Int32) (pc : Nat) (ls' : Array Slot) (H : Heap) (locs : List Loc), decode cc pc = .ok (.ireturn, 1) → va_S A s.heap H locs → Post v H → W p l e rm s m args below meth c H locs 0 0 Q (F0 m pc ls' [.int v])) → W p l e rm s m args below meth c s.heap [] 0 0 Q (F0 m 0 ls [])) : Met l y (ws_ y cc maxL (some rt)) rm (va_Pc av (fun U => pre U.heap ∧ va_K D cl tys U)) (va_Qi (fun r u => u = r) (fun u t => Post u t.heap) A) 0 0 A := by
  refine Met.ofW (cc := cc) (maxL := maxL) (ret := some rt) hy rfl ?_
  intro p e s m args below meth c s₁ B hml hv
  obtain ⟨rfl, hP, hK⟩ := hv
  have hts0 := atoms_spec (ws := ws_ y cc maxL (some rt)) B.pre
  have hts : ∀ w ∈ lw_all, w.before _ s = true := fun w h => hts0 w (List.mem_cons_of_mem _ h)
  have hown : s.vm.findClass own = some m.cls := ho ▸ findClass_of_methodNamed B.named
  have hl := lv_entry av (n := maxL) hsz
  rw [lg_entry_eq]
  have hlocks := B.notSynchronized
  refine body p e s m _ below meth c _ _ ⟨B.exec, B.bytes, hml, hown, hts⟩ hK hP hl (fun v pc ls' H locs hd hS hp => ?_)
  exact W.zret B.exec B.bytes B.returns (hnar v H hp) (fun t ht hW => ⟨⟨v, v, rfl, rfl, by show Post v t.heap; rw [ht]; exact hp⟩, hS.F ht⟩) hS.2.2 hd
/-- a method that may write the cells of A and answers nothing -/
theorem aj_rv {pre : Heap → Prop} {Post : Heap → Prop} (A : Nat → Prop) (own : String) (hy : plainName y.cls = true) (ho : y.cls = own) (hsz : (lg_sl av).length ≤ maxL) (body : ∀ (p : Program) (e : Env) (s : State) (m : MethodId) (args : Array Value) (below : List Frame) (meth : Method) (c : Code) (ls : Array Slot) (Q : State → Prop), CallFix p m c cc maxL s args lw_all own → va_K D cl tys s → pre s.heap → lv_has ls maxL (lv_args 0 av) → (∀ (pc : Nat) (ls' : Array Slot) (H : Heap) (locs : List Loc), decode cc pc = .ok (.return_, 1) → va_S A s.heap H locs → Post H → W p l e rm s m args below meth c H locs 0 0 Q (F0 m pc ls' [])) → W p l e rm s m args below meth c s.heap [] 0 0 Q (F0 m 0 ls [])) : Met l y (ws_ y cc maxL none) rm (va_Pc av (fun U => pre U.heap ∧ va_K D cl tys U)) (va_Qv (fun _ : Unit => True) (fun _ t => Post t.heap) A) 0 0 A := by
  refine Met.ofW (cc := cc) (maxL := maxL) (ret := none) hy rfl ?_
  intro p e s m args below meth c s₁ B hml hv
  obtain ⟨rfl, hP, hK⟩ := hv
  have hts0 := atoms_spec (ws := ws_ y cc maxL (none)) B.pre
  have hts : ∀ w ∈ lw_all, w.before _ s = true := fun w h => hts0 w (List.mem_cons_of_mem _ h)
  have hown : s.vm.findClass own = some m.cls := ho ▸ findClass_of_methodNamed B.named
  have hl := lv_entry av (n := maxL) hsz
  rw [lg_entry_eq]
  have hlocks := B.notSynchronized
  refine body p e s m _ below meth c _ _ ⟨B.exec, B.bytes, hml, hown, hts⟩ hK hP hl (fun pc ls' H locs hd hS hp => ?_)
  exact W.vret B.exec B.bytes B.returns (fun t ht hW => ⟨⟨(), rfl, trivial, by show Post t.heap; rw [ht]; exact hp⟩, hS.F ht⟩) hS.2.2 hd
end
/-- the room of a method over k levels of calls -/
abbrev aj_rm (k : Nat) : Room := { frames := k, cells := 0, slots := 0, locals := 30 * k }
theorem aj_rmR {j k L : Nat} (h : j < k) (hL : L ≤ 11) : (aj_rm j).frames + 1 ≤ (aj_rm k).frames ∧ 8 + (L + 11) + (aj_rm j).locals ≤ (aj_rm k).locals := ⟨h, by show 8 + (L + 11) + 30 * j ≤ 30 * k; omega⟩
theorem aj_nI {rt : FieldType} (h : rt = .int) (v : Int32) : narrow rt (.int v) = .int v := by
  rw [h]
  exact vp_nar_int v
theorem aj_nZ (b : Bool) : narrow .boolean (.int (nI b.toNat)) = .int (nI b.toNat) := by
  cases b <;> rfl
end
section
/-! the pure picture: tables G, sums aj_sm, the component's numbers; the two worlds -/
section
def aj_sm (f : Nat → Nat) : Nat → Nat
  | 0 => 0
  | n + 1 => aj_sm f n + f n
theorem aj_sm_0 (f : Nat → Nat) : aj_sm f 0 = 0 := rfl
theorem aj_sm_s (f : Nat → Nat) (n : Nat) : aj_sm f (n + 1) = aj_sm f n + f n := rfl
abbrev aj_T : Type := Nat → Nat → Nat → Bool
def aj_cR (G : aj_T) (v : Nat) : Nat := aj_sm (fun b => (G 2 v b).toNat) 8
def aj_cT (G : aj_T) (q : Nat) : Nat := aj_sm (fun b => (G 3 q b).toNat) 8
def aj_cQ (G : aj_T) (q : Nat) : Nat := aj_sm (fun r => (G 1 q r).toNat * aj_cR G r) 8
def aj_uQ (G : aj_T) (q : Nat) : Nat := aj_sm (fun v => (G 0 v q).toNat) 8
def aj_uR (G : aj_T) (r : Nat) : Nat := aj_sm (fun q => (G 1 q r).toNat * (aj_uQ G q * aj_cT G q)) 8
/-- behind(q) -/
def aj_be (G : aj_T) (q : Nat) : Nat := aj_cQ G q * aj_cT G q
/-- share(i, a, b) -/
def aj_sh (G : aj_T) (i a b : Nat) : Nat := match i with
  | 0 => aj_be G b
  | 1 => aj_uQ G a * aj_cT G a * aj_cR G b
  | 2 => aj_uR G a
  | _ => aj_uQ G a * aj_cQ G a
/-- the numbers by kind of walk and below -/
def aj_kv (G : aj_T) (k b : Nat) : Nat := match k with
  | 0 => aj_be G b
  | 1 => aj_cR G b
  | _ => 1
/-- the stretches of a row's values -/
def aj_st (G : aj_T) (i a sc k : Nat) : Nat → Nat := fun b => (G i a b).toNat * (sc * aj_kv G k b)
/-- inColumn(c, v), a summand -/
def aj_ic (G : aj_T) (c v : Nat) : Nat → Nat := fun x => match c with
  | 0 => (G 0 v x).toNat * aj_sh G 0 v x
  | 1 => (G 0 x v).toNat * aj_sh G 0 x v
  | 2 => (G 1 x v).toNat * aj_sh G 1 x v
  | 3 => (G 2 x v).toNat * aj_sh G 2 x v
  | _ => (G 3 x v).toNat * aj_sh G 3 x v
def aj_col (G : aj_T) (c v : Nat) : Nat := aj_sm (aj_ic G c v) 8
theorem aj_bl (b : Bool) : b.toNat < 2 ^ 31 := by cases b <;> decide
theorem aj_b1 (b : Bool) : b.toNat ≤ 1 := by cases b <;> decide
theorem aj_sm_le {f : Nat → Nat} {k : Nat} : ∀ n, (∀ j, j < n → f j ≤ k) → aj_sm f n ≤ n * k
  | 0, _ => by simp [aj_sm]
  | n + 1, h => by
    have h1 := aj_sm_le n (fun j hj => h j (Nat.lt_succ_of_lt hj))
    have h2 := h n (Nat.lt_succ_self n)
    rw [aj_sm_s, Nat.succ_mul]
    omega
theorem aj_sm8 {f : Nat → Nat} {k : Nat} (h : ∀ j, j < 8 → f j ≤ k) : aj_sm f 8 ≤ 8 * k := aj_sm_le 8 h
theorem aj_cR_le (G : aj_T) (v : Nat) : aj_cR G v ≤ 8 := aj_sm8 (k := 1) (fun j _ => aj_b1 _)
theorem aj_cT_le (G : aj_T) (v : Nat) : aj_cT G v ≤ 8 := aj_sm8 (k := 1) (fun j _ => aj_b1 _)
theorem aj_uQ_le (G : aj_T) (v : Nat) : aj_uQ G v ≤ 8 := aj_sm8 (k := 1) (fun j _ => aj_b1 _)
theorem aj_bm {b : Bool} {x k : Nat} (h : x ≤ k) : b.toNat * x ≤ k := by cases b <;> simp [h]
theorem aj_cQ_le (G : aj_T) (v : Nat) : aj_cQ G v ≤ 64 := aj_sm8 (k := 8) (fun j _ => aj_bm (aj_cR_le G j))
theorem aj_uR_le (G : aj_T) (v : Nat) : aj_uR G v ≤ 512 := aj_sm8 (k := 64) (fun j _ => aj_bm (Nat.mul_le_mul (aj_uQ_le G j) (aj_cT_le G j)))
theorem aj_be_le (G : aj_T) (v : Nat) : aj_be G v ≤ 512 := Nat.mul_le_mul (aj_cQ_le G v) (aj_cT_le G v)
theorem aj_sh_le (G : aj_T) (i a b : Nat) : aj_sh G i a b ≤ 512 := by
  unfold aj_sh
  split
  · exact aj_be_le G b
  · exact Nat.mul_le_mul (Nat.mul_le_mul (aj_uQ_le G a) (aj_cT_le G a)) (aj_cR_le G b)
  · exact aj_uR_le G a
  · exact Nat.mul_le_mul (aj_uQ_le G a) (aj_cQ_le G a)
theorem aj_kv_le (G : aj_T) (k b : Nat) : aj_kv G k b ≤ 512 := by
  unfold aj_kv
  split
  · exact aj_be_le G b
  · exact Nat.le_trans (aj_cR_le G b) (by decide)
  · decide
theorem aj_ic_le (G : aj_T) (c v x : Nat) : aj_ic G c v x ≤ 512 := by
  unfold aj_ic
  split <;> exact aj_bm (aj_sh_le G _ _ _)
theorem aj_col_le (G : aj_T) (c v : Nat) : aj_col G c v ≤ 4096 := aj_sm8 (k := 512) (fun j _ => aj_ic_le G c v j)
/-- the bits of next are the tables -/
def aj_Rel (N : Nat → Int32) (G : aj_T) : Prop := ∀ i a b, i < 4 → a < 8 → b < 8 → (N (i * 8 + a) >>> (nI b &&& 31)) &&& nI 1 = nI (G i a b).toNat
/-- the cached numbers -/
def aj_Ca (G : aj_T) (dR dT dQ uQ uR : Nat → Int32) : Prop := ∀ v, v < 8 → dR v = nI (aj_cR G v) ∧ dT v = nI (aj_cT G v) ∧ dQ v = nI (aj_cQ G v) ∧ uQ v = nI (aj_uQ G v) ∧ uR v = nI (aj_uR G v)
section
variable {G : aj_T} {dR dT dQ uQ uR : Nat → Int32} {v : Nat}
theorem aj_Ca.R (h : aj_Ca G dR dT dQ uQ uR) (hv : v < 8) : dR v = nI (aj_cR G v) := (h v hv).1
theorem aj_Ca.T (h : aj_Ca G dR dT dQ uQ uR) (hv : v < 8) : dT v = nI (aj_cT G v) := (h v hv).2.1
theorem aj_Ca.Q (h : aj_Ca G dR dT dQ uQ uR) (hv : v < 8) : dQ v = nI (aj_cQ G v) := (h v hv).2.2.1
theorem aj_Ca.q (h : aj_Ca G dR dT dQ uQ uR) (hv : v < 8) : uQ v = nI (aj_uQ G v) := (h v hv).2.2.2.1
theorem aj_Ca.r (h : aj_Ca G dR dT dQ uQ uR) (hv : v < 8) : uR v = nI (aj_uR G v) := (h v hv).2.2.2.2
end
abbrev aj_cl : List vw_C := [(RX0, TX0, 9), (RX1, TX1, 3)]
def aj_cW (ad : Nat → Nat) (d : ClassId) (N S : Nat → Int32) (pd : Int32) (dR dT dQ uQ uR : Nat → Int32) (re : Int32) : va_W :=
  [(ad 0, .inr (0, [.ref (ad 1), .ref (ad 2), .int pd, .ref (ad 3), .ref (ad 4), .ref (ad 5), .ref (ad 6), .ref (ad 7), .int re])), (ad 1, .inl (d, 32, .inl N)), (ad 2, .inl (d, 4, .inl S)), (ad 3, .inl (d, 8, .inl dR)), (ad 4, .inl (d, 8, .inl dT)), (ad 5, .inl (d, 8, .inl dQ)), (ad 6, .inl (d, 8, .inl uQ)), (ad 7, .inl (d, 8, .inl uR))]
def aj_mW (bd : Nat → Nat) (d2 d : ClassId) (M S E : Nat → Int32) : va_W :=
  [(bd 0, .inr (1, [.ref (bd 1), .ref (bd 2), .ref (bd 3)])), (bd 1, .inl (d2, 256, .inl M)), (bd 2, .inl (d, 4, .inl S)), (bd 3, .inl (d2, 64, .inl E))]
abbrev aj_cP (D : va_G) (ad : Nat → Nat) (d : ClassId) (N S : Nat → Int32) (pd : Int32) (dR dT dQ uQ uR : Nat → Int32) (re : Int32) (H : Heap) : Prop := va_P D aj_cl (aj_cW ad d N S pd dR dT dQ uQ uR re) H
abbrev aj_mP (D : va_G) (bd : Nat → Nat) (d2 d : ClassId) (M S E : Nat → Int32) (H : Heap) : Prop := va_P D aj_cl (aj_mW bd d2 d M S E) H
def aj_Ap (n : Nat) (ad : Nat → Nat) : Prop := ∀ i j, i < n → j < n → ad i = ad j → i = j
def aj_In (n : Nat) (ad : Nat → Nat) : Nat → Prop := fun q => ∃ k, k < n ∧ q = ad k
theorem aj_D {n : Nat} {ad : Nat → Nat} {ws : va_W} (h : aj_Ap n ad) (hw : ∀ k q, ws[k]? = some q → k < n ∧ q.1 = ad k) : va_D (aj_In n ad) ws := by
  refine ⟨fun i j p q hi hj e => ?_, fun k q hk => ⟨k, hw k q hk⟩⟩
  obtain ⟨h1, e1⟩ := hw i p hi
  obtain ⟨h2, e2⟩ := hw j q hj
  exact h i j h1 h2 (by rw [← e1, ← e2]; exact e)
theorem aj_cAt {ad : Nat → Nat} {d : ClassId} {N S : Nat → Int32} {pd : Int32} {dR dT dQ uQ uR : Nat → Int32} {re : Int32} : ∀ (k : Nat) (q : Nat × va_E), (aj_cW ad d N S pd dR dT dQ uQ uR re)[k]? = some q → k < 8 ∧ q.1 = ad k
  | 0, _, h => by cases h; exact ⟨by decide, rfl⟩
  | 1, _, h => by cases h; exact ⟨by decide, rfl⟩
  | 2, _, h => by cases h; exact ⟨by decide, rfl⟩
  | 3, _, h => by cases h; exact ⟨by decide, rfl⟩
  | 4, _, h => by cases h; exact ⟨by decide, rfl⟩
  | 5, _, h => by cases h; exact ⟨by decide, rfl⟩
  | 6, _, h => by cases h; exact ⟨by decide, rfl⟩
  | 7, _, h => by cases h; exact ⟨by decide, rfl⟩
  | k + 8, _, h => by simp [aj_cW] at h
theorem aj_mAt {bd : Nat → Nat} {d2 d : ClassId} {M S E : Nat → Int32} : ∀ (k : Nat) (q : Nat × va_E), (aj_mW bd d2 d M S E)[k]? = some q → k < 4 ∧ q.1 = bd k
  | 0, _, h => by cases h; exact ⟨by decide, rfl⟩
  | 1, _, h => by cases h; exact ⟨by decide, rfl⟩
  | 2, _, h => by cases h; exact ⟨by decide, rfl⟩
  | 3, _, h => by cases h; exact ⟨by decide, rfl⟩
  | k + 4, _, h => by simp [aj_mW] at h
theorem aj_cD {ad : Nat → Nat} {d : ClassId} {N S : Nat → Int32} {pd : Int32} {dR dT dQ uQ uR : Nat → Int32} {re : Int32} (h : aj_Ap 8 ad) : va_D (aj_In 8 ad) (aj_cW ad d N S pd dR dT dQ uQ uR re) := aj_D h aj_cAt
theorem aj_mD {bd : Nat → Nat} {d2 d : ClassId} {M S E : Nat → Int32} (h : aj_Ap 4 bd) : va_D (aj_In 4 bd) (aj_mW bd d2 d M S E) := aj_D h aj_mAt
/-- contracts, in short: a reader with answer val; a writer of A with an int; a writer of A without -/
abbrev aj_MR (l : Launch) (y : MethodName) (cc : ByteArray) (L : Nat) (rt : FieldType) (k : Nat) (D : va_G) (tys : List (ClassId × FieldType)) (av : List Value) (pre : Heap → Prop) (val : Int32) : Prop := Met l y (ws_ y cc L (some rt)) (aj_rm k) (va_Pc av (fun U => pre U.heap ∧ va_K D aj_cl tys U)) (vp_Si (fun r => r = val)) 0 0 (fun _ => False)
abbrev aj_MW (l : Launch) (y : MethodName) (cc : ByteArray) (L : Nat) (rt : FieldType) (k : Nat) (D : va_G) (tys : List (ClassId × FieldType)) (av : List Value) (pre : Heap → Prop) (Post : Int32 → Heap → Prop) (A : Nat → Prop) : Prop := Met l y (ws_ y cc L (some rt)) (aj_rm k) (va_Pc av (fun U => pre U.heap ∧ va_K D aj_cl tys U)) (va_Qi (fun r u => u = r) (fun u t => Post u t.heap) A) 0 0 A
abbrev aj_MV (l : Launch) (y : MethodName) (cc : ByteArray) (L : Nat) (k : Nat) (D : va_G) (tys : List (ClassId × FieldType)) (av : List Value) (pre : Heap → Prop) (Post : Heap → Prop) (A : Nat → Prop) : Prop := Met l y (ws_ y cc L none) (aj_rm k) (va_Pc av (fun U => pre U.heap ∧ va_K D aj_cl tys U)) (va_Qv (fun _ : Unit => True) (fun _ t => Post t.heap) A) 0 0 A
end
end
section
section
/-- out of range, as badRow asks it -/
def aj_bad (x y z : Int32) : Bool := decide (x < 0) || decide (nI 4 ≤ x) || decide (y < 0) || decide (nI 8 ≤ y) || decide (z < 0) || !decide (z < nI 8)
def aj_badC (x : Int32) : Bool := decide (x < 0) || !decide (x ≤ nI 32767)
theorem aj_bad_ok {i a b : Nat} (h1 : i < 4) (h2 : a < 8) (h3 : b < 8) : aj_bad (nI i) (nI a) (nI b) = false := by
  have e1 : ¬ nI i < 0 := nI_pos (by omega)
  have e2 : ¬ nI 4 ≤ nI i := nI_ge h1 (by decide)
  have e3 : ¬ nI a < 0 := nI_pos (by omega)
  have e4 : ¬ nI 8 ≤ nI a := nI_ge h2 (by decide)
  have e5 : ¬ nI b < 0 := nI_pos (by omega)
  have e6 : nI b < nI 8 := nI_lt h3 (by decide)
  simp [aj_bad, e1, e2, e3, e4, e5, e6]
/-- three numbers: out of range, or a place -/
theorem aj_args (x y z : Int32) : aj_bad x y z = true ∨ ∃ i a b : Nat, i < 4 ∧ a < 8 ∧ b < 8 ∧ x = nI i ∧ y = nI a ∧ z = nI b := by
  rcases pk_ix x (n := 4) (by decide) with h | h | ⟨i, h1, rfl⟩
  · exact Or.inl (by simp [aj_bad, h])
  · exact Or.inl (by simp [aj_bad, h])
  rcases pk_ix y (n := 8) (by decide) with h | h | ⟨a, h2, rfl⟩
  · exact Or.inl (by simp [aj_bad, h])
  · exact Or.inl (by simp [aj_bad, h])
  rcases pk_ix z (n := 8) (by decide) with h | h | ⟨b, h3, rfl⟩
  · exact Or.inl (by simp [aj_bad, h])
  · exact Or.inl (by simp [aj_bad, Int32.not_lt.mpr h])
  exact Or.inr ⟨i, a, b, h1, h2, h3, rfl, rfl, rfl⟩
theorem aj_badC_ok {k : Nat} (h : k < 32768) : aj_badC (nI k) = false := by
  have e1 : ¬ nI k < 0 := nI_pos (by omega)
  have e2 : nI k ≤ nI 32767 := nI_le (by omega) (by decide)
  simp [aj_badC, e1, e2]
theorem aj_argC (x : Int32) : aj_badC x = true ∨ ∃ k : Nat, k < 32768 ∧ x = nI k := by
  rcases pk_ix x (n := 32768) (by decide) with h | h | ⟨k, h1, rfl⟩
  · exact Or.inl (by simp [aj_badC, h])
  · have : ¬ x ≤ nI 32767 := fun z => absurd (Int32.le_trans h z) (by decide)
    exact Or.inl (by simp [aj_badC, this])
  · exact Or.inr ⟨k, h1, rfl⟩
/-- a bounded number: out of range, or a natural -/
def aj_out (n : Nat) (x : Int32) : Bool := decide (x < 0) || decide (nI n ≤ x)
theorem aj_arg1 (x : Int32) (n : Nat) (hn : n < 2 ^ 31) : aj_out n x = true ∨ ∃ i : Nat, i < n ∧ x = nI i := by
  rcases pk_ix x (n := n) hn with h | h | ⟨i, h1, rfl⟩
  · exact Or.inl (by simp [aj_out, h])
  · exact Or.inl (by simp [aj_out, h])
  · exact Or.inr ⟨i, h1, rfl⟩
theorem aj_out_ok {n i : Nat} (h : i < n) (hn : n < 2 ^ 31) : aj_out n (nI i) = false := by
  have e1 : ¬ nI i < 0 := nI_pos (by omega)
  have e2 : ¬ nI n ≤ nI i := nI_ge h hn
  simp [aj_out, e1, e2]
theorem aj_and7 {k : Nat} (h : k < 2 ^ 31) : nI k &&& nI 7 = nI (k % 8) := pk_andN (m := nI 7) (Nat.lt_trans h (by decide)) 3 (by decide)
theorem aj_and63 {k : Nat} (h : k < 2 ^ 31) : nI k &&& nI 63 = nI (k % 64) := pk_andN (m := nI 63) (Nat.lt_trans h (by decide)) 6 (by decide)
theorem aj_shr3 {k : Nat} (h : k < 2 ^ 31) : nI k >>> (nI 3 &&& 31) = nI (k / 8) := pk_shrN h (nI 3 &&& 31) 3 (by decide)
theorem aj_shr6 {k : Nat} (h : k < 2 ^ 31) : nI k >>> (nI 6 &&& 31) = nI (k / 64) := pk_shrN h (nI 6 &&& 31) 6 (by decide)
theorem aj_shr9 {k : Nat} (h : k < 2 ^ 31) : nI k >>> (nI 9 &&& 31) = nI (k / 512) := pk_shrN h (nI 9 &&& 31) 9 (by decide)
theorem aj_shr12 {k : Nat} (h : k < 2 ^ 31) : nI k >>> (nI 12 &&& 31) = nI (k / 4096) := pk_shrN h (nI 12 &&& 31) 12 (by decide)
/-- the set that endsOf gathers -/
def aj_cnd (G : aj_T) (v q r : Nat) : Bool := G 0 v q && (decide (0 < aj_cT G q) && G 1 q r)
def aj_fi (c : Nat → Bool) (N : Nat → Int32) (y : Int32) : Nat → Int32
  | 0 => y
  | r + 1 => if c r = true then aj_fi c N y r ||| N (16 + r) else aj_fi c N y r
def aj_fo (G : aj_T) (N : Nat → Int32) (v : Nat) : Nat → Int32
  | 0 => nI 0
  | q + 1 => aj_fi (aj_cnd G v q) N (aj_fo G N v q) 8
/-- has, by the digits of the code -/
def aj_hasC (G : aj_T) (k : Nat) : Bool := G 0 (k % 8) (k / 8 % 8) && (G 1 (k / 8 % 8) (k / 64 % 8) && (G 2 (k / 64 % 8) (k / 512 % 8) && G 3 (k / 8 % 8) (k / 4096)))
/-- the component, seen from outside: it holds the tables G with the sizes S -/
def aj_CC (D : va_G) (ad : Nat → Nat) (d : ClassId) (G : aj_T) (S : Nat → Int32) (H : Heap) : Prop := ∃ (N : Nat → Int32) (pb : Bool) (dR dT dQ uQ uR : Nat → Int32) (re : Int32), aj_Rel N G ∧ (pb = true → aj_Ca G dR dT dQ uQ uR) ∧ aj_cP D ad d N S (nI pb.toNat) dR dT dQ uQ uR re H
end
end
section
section
set_option maxHeartbeats 4000000 in
set_option maxRecDepth 100000 in
theorem aj_badRow (l : Launch) {D : va_G} {ad : Nat → Nat} {d : ClassId} {N S : Nat → Int32} {pd : Int32} {dR dT dQ uQ uR : Nat → Int32} {re : Int32} {x y z : Int32} : aj_MR l yX0_badRow cX0_badRow 4 .boolean 0 D [(d, .int)] [.ref (ad 0), .int x, .int y, .int z] (aj_cP D ad d N S pd dR dT dQ uQ uR re) (nI (aj_bad x y z).toNat) := by
  refine aj_ro RX0 (by decide) rfl (Nat.le_of_ble_eq_true rfl) (fun v h => by rw [h]; exact aj_nZ _) ?_
  intro p e s m args below meth c ls Q F hK hP hl hret
  obtain ⟨hx, hb, hml, hown, hts⟩ := id F
  have hP : va_P D aj_cl (aj_cW ad d N S pd dR dT dQ uQ uR re) s.heap := hP
  have hl : lv_has ls 4 [(0, .ref (ad 0)), (1, .int x), (2, .int y), (3, .int z)] := hl
  refine lv_iload_n hx hb dX0_badRow_0 rfl (lv_at hl 1 rfl) ?_
  refine lv_if_lt (tgt := 29) hx hb dX0_badRow_1 (by decide) (fun c_1 => ?_) (fun c_1 => ?_)
  ·
    refine lv_iconst (v := nI 1) hx hb dX0_badRow_29 (by decide) ?_
    refine lv_goto (tgt := 34) hx hb dX0_badRow_30 (by decide) ?_
    exact hret (nI 1) _ _ dX0_badRow_34 ((by simp [aj_bad, *]))
  ·
    refine lv_iload_n hx hb dX0_badRow_4 rfl (lv_at hl 1 rfl) ?_
    refine lv_iconst (v := nI 4) hx hb dX0_badRow_5 (by decide) ?_
    refine lv_icmp_ge (tgt := 29) hx hb dX0_badRow_6 (by decide) (fun c_6 => ?_) (fun c_6 => ?_)
    ·
      refine lv_iconst (v := nI 1) hx hb dX0_badRow_29 (by decide) ?_
      refine lv_goto (tgt := 34) hx hb dX0_badRow_30 (by decide) ?_
      exact hret (nI 1) _ _ dX0_badRow_34 ((by simp [aj_bad, *]))
    ·
      refine lv_iload_n hx hb dX0_badRow_9 rfl (lv_at hl 2 rfl) ?_
      refine lv_if_lt (tgt := 29) hx hb dX0_badRow_10 (by decide) (fun c_10 => ?_) (fun c_10 => ?_)
      ·
        refine lv_iconst (v := nI 1) hx hb dX0_badRow_29 (by decide) ?_
        refine lv_goto (tgt := 34) hx hb dX0_badRow_30 (by decide) ?_
        exact hret (nI 1) _ _ dX0_badRow_34 ((by simp [aj_bad, *]))
      ·
        refine lv_iload_n hx hb dX0_badRow_13 rfl (lv_at hl 2 rfl) ?_
        refine lv_bipush (v := nI 8) hx hb dX0_badRow_14 (by decide) ?_
        refine lv_icmp_ge (tgt := 29) hx hb dX0_badRow_16 (by decide) (fun c_16 => ?_) (fun c_16 => ?_)
        ·
          refine lv_iconst (v := nI 1) hx hb dX0_badRow_29 (by decide) ?_
          refine lv_goto (tgt := 34) hx hb dX0_badRow_30 (by decide) ?_
          exact hret (nI 1) _ _ dX0_badRow_34 ((by simp [aj_bad, *]))
        ·
          refine lv_iload_n hx hb dX0_badRow_19 rfl (lv_at hl 3 rfl) ?_
          refine lv_if_lt (tgt := 29) hx hb dX0_badRow_20 (by decide) (fun c_20 => ?_) (fun c_20 => ?_)
          ·
            refine lv_iconst (v := nI 1) hx hb dX0_badRow_29 (by decide) ?_
            refine lv_goto (tgt := 34) hx hb dX0_badRow_30 (by decide) ?_
            exact hret (nI 1) _ _ dX0_badRow_34 ((by simp [aj_bad, *]))
          ·
            refine lv_iload_n hx hb dX0_badRow_23 rfl (lv_at hl 3 rfl) ?_
            refine lv_bipush (v := nI 8) hx hb dX0_badRow_24 (by decide) ?_
            refine lv_icmp_lt (tgt := 33) hx hb dX0_badRow_26 (by decide) (fun c_26 => ?_) (fun c_26 => ?_)
            ·
              refine lv_iconst (v := nI 0) hx hb dX0_badRow_33 (by decide) ?_
              exact hret (nI 0) _ _ dX0_badRow_34 ((by simp [aj_bad, *]))
            ·
              refine lv_iconst (v := nI 1) hx hb dX0_badRow_29 (by decide) ?_
              refine lv_goto (tgt := 34) hx hb dX0_badRow_30 (by decide) ?_
              exact hret (nI 1) _ _ dX0_badRow_34 ((by simp [aj_bad, *]))

set_option maxHeartbeats 4000000 in
set_option maxRecDepth 100000 in
theorem aj_there (l : Launch) {D : va_G} {ad : Nat → Nat} {d : ClassId} {N S : Nat → Int32} {pd : Int32} {dR dT dQ uQ uR : Nat → Int32} {re : Int32} {G : aj_T} (hG : aj_Rel N G) {i a b : Nat} (h1 : i < 4) (h2 : a < 8) (h3 : b < 8) : aj_MR l yX0_there cX0_there 4 .boolean 0 D [(d, .int)] [.ref (ad 0), .int (nI i), .int (nI a), .int (nI b)] (aj_cP D ad d N S pd dR dT dQ uQ uR re) (nI (G i a b).toNat) := by
  refine aj_ro RX0 (by decide) rfl (Nat.le_of_ble_eq_true rfl) (fun v h => by rw [h]; exact aj_nZ _) ?_
  intro p e s m args below meth c ls Q F hK hP hl hret
  obtain ⟨hx, hb, hml, hown, hts⟩ := id F
  have hP : va_P D aj_cl (aj_cW ad d N S pd dR dT dQ uQ uR re) s.heap := hP
  have hl : lv_has ls 4 [(0, .ref (ad 0)), (1, .int (nI i)), (2, .int (nI a)), (3, .int (nI b))] := hl
  refine lv_aload_n hx hb dX0_there_0 rfl (lv_at hl 0 rfl) ?_
  refine va_get (D := D) (ci := 0) (v := .ref (ad 1)) (C := RX0) (T := TX0) (N := 9) hx hb hts in_X0 hown hK hP 0 rfl rfl 0 (by decide) (hts _ q32) (fun _ h9 => h9) rfl dX0_there_1 ?_
  refine lv_iload_n hx hb dX0_there_4 rfl (lv_at hl 1 rfl) ?_
  refine lv_bipush (v := nI 8) hx hb dX0_there_5 (by decide) ?_
  refine aj_imul hx hb dX0_there_7 ?_
  refine lv_iload_n hx hb dX0_there_8 rfl (lv_at hl 2 rfl) ?_
  refine aj_iadd hx hb dX0_there_9 ?_
  refine aj_iald (y := N ((i * 8) + a)) hx hb hK hP 1 0 rfl rfl (by omega) (by decide) rfl dX0_there_10 ?_
  refine lv_iload_n hx hb dX0_there_11 rfl (lv_at hl 3 rfl) ?_
  refine lv_ishr hx hb dX0_there_12 ?_
  refine lv_iconst (v := nI 1) hx hb dX0_there_13 (by decide) ?_
  refine lv_iand hx hb dX0_there_14 ?_
  refine aj_top (y := nI ((G i a b).toNat)) (hG i a b h1 h2 h3) ?_
  refine lv_iconst (v := nI 1) hx hb dX0_there_15 (by decide) ?_
  refine aj_ne (tgt := 23) hx hb (aj_bl _) (by decide) dX0_there_16 (by decide) (fun c_16 => ?_) (fun c_16 => ?_)
  ·
    refine lv_iconst (v := nI 0) hx hb dX0_there_23 (by decide) ?_
    exact hret (nI 0) _ _ dX0_there_24 ((by cases hq : G i a b <;> simp_all))
  ·
    refine lv_iconst (v := nI 1) hx hb dX0_there_19 (by decide) ?_
    refine lv_goto (tgt := 24) hx hb dX0_there_20 (by decide) ?_
    exact hret (nI 1) _ _ dX0_there_24 ((by cases hq : G i a b <;> simp_all))

set_option maxHeartbeats 4000000 in
set_option maxRecDepth 100000 in
theorem aj_sizeOf (l : Launch) {D : va_G} {ad : Nat → Nat} {d : ClassId} {N S : Nat → Int32} {pd : Int32} {dR dT dQ uQ uR : Nat → Int32} {re : Int32} {x : Int32} {f : Nat → Nat} (hf : ∀ v, v < 8 → (x >>> (nI v &&& 31)) &&& nI 1 = nI (f v)) : aj_MR l yX0_sizeOf cX0_sizeOf 4 .int 0 D [(d, .int)] [.ref (ad 0), .int x] (aj_cP D ad d N S pd dR dT dQ uQ uR re) (nI (aj_sm f 8)) := by
  refine aj_ro RX0 (by decide) rfl (Nat.le_of_ble_eq_true rfl) (fun v h => aj_nI rfl v) ?_
  intro p e s m args below meth c ls Q F hK hP hl hret
  obtain ⟨hx, hb, hml, hown, hts⟩ := id F
  have hP : va_P D aj_cl (aj_cW ad d N S pd dR dT dQ uQ uR re) s.heap := hP
  have hl : lv_has ls 4 [(0, .ref (ad 0)), (1, .int x)] := hl
  refine lv_iconst (v := nI 0) hx hb dX0_sizeOf_0 (by decide) ?_
  refine lv_istore_n (lv' := [(2, .int (nI 0)), (0, .ref (ad 0)), (1, .int x)]) hx hb dX0_sizeOf_1 rfl hl (by decide) rfl (fun ls hl => ?_)
  refine lv_iconst (v := nI 0) hx hb dX0_sizeOf_2 (by decide) ?_
  refine lv_istore_n (lv' := [(3, .int (nI 0)), (2, .int (nI 0)), (0, .ref (ad 0)), (1, .int x)]) hx hb dX0_sizeOf_3 rfl hl (by decide) rfl (fun ls hl => ?_)
  have L_4 : ∀ (n_4 : Nat), ∀ (v : Nat) (y : Int32), y = nI (aj_sm f v) → v ≤ 8 → 9 ≤ v + n_4 → ∀ (ls : Array Slot), lv_has ls 4 [(0, .ref (ad 0)), (1, .int x), (2, .int y), (3, .int (nI v))] → W p l e (aj_rm 0) s m args below meth c s.heap [] 0 0 Q (F0 m 4 ls []) := by
    intro n_4
    induction n_4 with
    | zero =>
      intro v y e_y hv hfu ls hl
      exfalso; omega
    | succ n_4 ih_4 =>
      intro v y e_y hv hfu ls hl
      subst e_y
      refine lv_iload_n hx hb dX0_sizeOf_4 rfl (lv_at hl 3 rfl) ?_
      refine lv_bipush (v := nI 8) hx hb dX0_sizeOf_5 (by decide) ?_
      refine aj_ge (tgt := 24) hx hb (by omega) (by decide) dX0_sizeOf_7 (by decide) (fun c_7 => ?_) (fun c_7 => ?_)
      ·
        refine lv_iload_n hx hb dX0_sizeOf_24 rfl (lv_at hl 2 rfl) ?_
        exact hret (nI (aj_sm f v)) _ _ dX0_sizeOf_25 ((by rw [show v = 8 by omega]))
      ·
        refine lv_iload_n hx hb dX0_sizeOf_10 rfl (lv_at hl 2 rfl) ?_
        refine lv_iload_n hx hb dX0_sizeOf_11 rfl (lv_at hl 1 rfl) ?_
        refine lv_iload_n hx hb dX0_sizeOf_12 rfl (lv_at hl 3 rfl) ?_
        refine lv_ishr hx hb dX0_sizeOf_13 ?_
        refine lv_iconst (v := nI 1) hx hb dX0_sizeOf_14 (by decide) ?_
        refine lv_iand hx hb dX0_sizeOf_15 ?_
        refine aj_top (y := nI (f v)) (hf v c_7) ?_
        refine aj_iadd hx hb dX0_sizeOf_16 ?_
        refine lv_istore_n (lv' := [(2, .int (nI ((aj_sm f v) + (f v)))), (0, .ref (ad 0)), (1, .int x), (3, .int (nI v))]) hx hb dX0_sizeOf_17 rfl hl (by decide) rfl (fun ls hl => ?_)
        refine lv_iinc (v := nI (v + 1)) (lv' := [(3, .int (nI (v + 1))), (2, .int (nI ((aj_sm f v) + (f v)))), (0, .ref (ad 0)), (1, .int x)]) hx hb dX0_sizeOf_18 hl (k := 3) rfl (nI_add v 1) (by decide) rfl (fun ls hl => ?_)
        refine lv_goto (tgt := 4) hx hb dX0_sizeOf_21 (by decide) ?_
        exact ih_4 (v + 1) (nI ((aj_sm f v) + (f v))) (by first | rfl | simp [aj_sm, *]) (by omega) (by omega) _ (lv_sub hl [2, 3, 1, 0] rfl)
  exact L_4 9 0 (nI 0) (by first | rfl | simp [aj_sm, *]) (by omega) (by omega) _ (lv_sub hl [2, 3, 1, 0] rfl)

set_option maxHeartbeats 4000000 in
set_option maxRecDepth 100000 in
theorem aj_behind (l : Launch) {D : va_G} {ad : Nat → Nat} {d : ClassId} {N S : Nat → Int32} {pd : Int32} {dR dT dQ uQ uR : Nat → Int32} {re : Int32} {G : aj_T} (hC : aj_Ca G dR dT dQ uQ uR) {q : Nat} (h1 : q < 8) : aj_MR l yX0_behind cX0_behind 2 .int 0 D [(d, .int)] [.ref (ad 0), .int (nI q)] (aj_cP D ad d N S pd dR dT dQ uQ uR re) (nI (aj_be G q)) := by
  refine aj_ro RX0 (by decide) rfl (Nat.le_of_ble_eq_true rfl) (fun v h => aj_nI rfl v) ?_
  intro p e s m args below meth c ls Q F hK hP hl hret
  obtain ⟨hx, hb, hml, hown, hts⟩ := id F
  have hP : va_P D aj_cl (aj_cW ad d N S pd dR dT dQ uQ uR re) s.heap := hP
  have hl : lv_has ls 2 [(0, .ref (ad 0)), (1, .int (nI q))] := hl
  refine lv_aload_n hx hb dX0_behind_0 rfl (lv_at hl 0 rfl) ?_
  refine va_get (D := D) (ci := 0) (v := .ref (ad 5)) (C := RX0) (T := TX0) (N := 9) hx hb hts in_X0 hown hK hP 0 rfl rfl 5 (by decide) (hts _ q37) (fun _ h9 => h9) rfl dX0_behind_1 ?_
  refine lv_iload_n hx hb dX0_behind_4 rfl (lv_at hl 1 rfl) ?_
  refine aj_iald (y := nI (aj_cQ G q)) hx hb hK hP 5 0 rfl rfl (by omega) (by decide) (hC.Q h1) dX0_behind_5 ?_
  refine lv_aload_n hx hb dX0_behind_6 rfl (lv_at hl 0 rfl) ?_
  refine va_get (D := D) (ci := 0) (v := .ref (ad 4)) (C := RX0) (T := TX0) (N := 9) hx hb hts in_X0 hown hK hP 0 rfl rfl 4 (by decide) (hts _ q36) (fun _ h9 => h9) rfl dX0_behind_7 ?_
  refine lv_iload_n hx hb dX0_behind_10 rfl (lv_at hl 1 rfl) ?_
  refine aj_iald (y := nI (aj_cT G q)) hx hb hK hP 4 0 rfl rfl (by omega) (by decide) (hC.T h1) dX0_behind_11 ?_
  refine aj_imul hx hb dX0_behind_12 ?_
  exact hret (nI ((aj_cQ G q) * (aj_cT G q))) _ _ dX0_behind_13 (rfl)

set_option maxHeartbeats 4000000 in
set_option maxRecDepth 100000 in
theorem aj_badCode (l : Launch) {D : va_G} {ad : Nat → Nat} {d : ClassId} {N S : Nat → Int32} {pd : Int32} {dR dT dQ uQ uR : Nat → Int32} {re : Int32} {x : Int32} : aj_MR l yX0_badCode cX0_badCode 2 .boolean 0 D [(d, .int)] [.ref (ad 0), .int x] (aj_cP D ad d N S pd dR dT dQ uQ uR re) (nI (aj_badC x).toNat) := by
  refine aj_ro RX0 (by decide) rfl (Nat.le_of_ble_eq_true rfl) (fun v h => by rw [h]; exact aj_nZ _) ?_
  intro p e s m args below meth c ls Q F hK hP hl hret
  obtain ⟨hx, hb, hml, hown, hts⟩ := id F
  have hP : va_P D aj_cl (aj_cW ad d N S pd dR dT dQ uQ uR re) s.heap := hP
  have hl : lv_has ls 2 [(0, .ref (ad 0)), (1, .int x)] := hl
  refine lv_iload_n hx hb dX0_badCode_0 rfl (lv_at hl 1 rfl) ?_
  refine lv_if_lt (tgt := 11) hx hb dX0_badCode_1 (by decide) (fun c_1 => ?_) (fun c_1 => ?_)
  ·
    refine lv_iconst (v := nI 1) hx hb dX0_badCode_11 (by decide) ?_
    refine lv_goto (tgt := 16) hx hb dX0_badCode_12 (by decide) ?_
    exact hret (nI 1) _ _ dX0_badCode_16 ((by simp [aj_badC, *]))
  ·
    refine lv_iload_n hx hb dX0_badCode_4 rfl (lv_at hl 1 rfl) ?_
    refine lv_sipush (v := nI 32767) hx hb dX0_badCode_5 (by decide) ?_
    refine lv_icmp_le (tgt := 15) hx hb dX0_badCode_8 (by decide) (fun c_8 => ?_) (fun c_8 => ?_)
    ·
      refine lv_iconst (v := nI 0) hx hb dX0_badCode_15 (by decide) ?_
      exact hret (nI 0) _ _ dX0_badCode_16 ((by simp [aj_badC, *]))
    ·
      refine lv_iconst (v := nI 1) hx hb dX0_badCode_11 (by decide) ?_
      refine lv_goto (tgt := 16) hx hb dX0_badCode_12 (by decide) ?_
      exact hret (nI 1) _ _ dX0_badCode_16 ((by simp [aj_badC, *]))

set_option maxHeartbeats 4000000 in
set_option maxRecDepth 100000 in
theorem aj_share (l : Launch) {D : va_G} {ad : Nat → Nat} {d : ClassId} {N S : Nat → Int32} {pd : Int32} {dR dT dQ uQ uR : Nat → Int32} {re : Int32} {G : aj_T} (hC : aj_Ca G dR dT dQ uQ uR) {i a b : Nat} (h1 : i < 4) (h2 : a < 8) (h3 : b < 8) : aj_MR l yX0_share cX0_share 4 .int 1 D [(d, .int)] [.ref (ad 0), .int (nI i), .int (nI a), .int (nI b)] (aj_cP D ad d N S pd dR dT dQ uQ uR re) (nI (aj_sh G i a b)) := by
  refine aj_ro RX0 (by decide) rfl (Nat.le_of_ble_eq_true rfl) (fun v h => aj_nI rfl v) ?_
  intro p e s m args below meth c ls Q F hK hP hl hret
  obtain ⟨hx, hb, hml, hown, hts⟩ := id F
  have hP : va_P D aj_cl (aj_cW ad d N S pd dR dT dQ uQ uR re) s.heap := hP
  have hl : lv_has ls 4 [(0, .ref (ad 0)), (1, .int (nI i)), (2, .int (nI a)), (3, .int (nI b))] := hl
  refine lv_iload_n hx hb dX0_share_0 rfl (lv_at hl 1 rfl) ?_
  refine aj_ifne (tgt := 10) hx hb (by omega) dX0_share_1 (by decide) (fun c_1 => ?_) (fun c_1 => ?_)
  ·
    refine lv_iload_n hx hb dX0_share_10 rfl (lv_at hl 1 rfl) ?_
    refine lv_iconst (v := nI 1) hx hb dX0_share_11 (by decide) ?_
    refine aj_ne (tgt := 36) hx hb (by omega) (by decide) dX0_share_12 (by decide) (fun c_12 => ?_) (fun c_12 => ?_)
    ·
      refine lv_iload_n hx hb dX0_share_36 rfl (lv_at hl 1 rfl) ?_
      refine lv_iconst (v := nI 2) hx hb dX0_share_37 (by decide) ?_
      refine aj_ne (tgt := 50) hx hb (by omega) (by decide) dX0_share_38 (by decide) (fun c_38 => ?_) (fun c_38 => ?_)
      ·
        refine lv_aload_n hx hb dX0_share_50 rfl (lv_at hl 0 rfl) ?_
        refine va_get (D := D) (ci := 0) (v := .ref (ad 6)) (C := RX0) (T := TX0) (N := 9) hx hb hts in_X0 hown hK hP 0 rfl rfl 6 (by decide) (hts _ q38) (fun _ h9 => h9) rfl dX0_share_51 ?_
        refine lv_iload_n hx hb dX0_share_54 rfl (lv_at hl 2 rfl) ?_
        refine aj_iald (y := nI (aj_uQ G a)) hx hb hK hP 6 0 rfl rfl (by omega) (by decide) (hC.q h2) dX0_share_55 ?_
        refine lv_aload_n hx hb dX0_share_56 rfl (lv_at hl 0 rfl) ?_
        refine va_get (D := D) (ci := 0) (v := .ref (ad 5)) (C := RX0) (T := TX0) (N := 9) hx hb hts in_X0 hown hK hP 0 rfl rfl 5 (by decide) (hts _ q37) (fun _ h9 => h9) rfl dX0_share_57 ?_
        refine lv_iload_n hx hb dX0_share_60 rfl (lv_at hl 2 rfl) ?_
        refine aj_iald (y := nI (aj_cQ G a)) hx hb hK hP 5 0 rfl rfl (by omega) (by decide) (hC.Q h2) dX0_share_61 ?_
        refine aj_imul hx hb dX0_share_62 ?_
        exact hret (nI ((aj_uQ G a) * (aj_cQ G a))) _ _ dX0_share_63 ((by first | (subst c_38; rfl) | (obtain rfl : i = 3 := by omega); rfl))
      ·
        refine lv_aload_n hx hb dX0_share_41 rfl (lv_at hl 0 rfl) ?_
        refine va_get (D := D) (ci := 0) (v := .ref (ad 7)) (C := RX0) (T := TX0) (N := 9) hx hb hts in_X0 hown hK hP 0 rfl rfl 7 (by decide) (hts _ q39) (fun _ h9 => h9) rfl dX0_share_42 ?_
        refine lv_iload_n hx hb dX0_share_45 rfl (lv_at hl 2 rfl) ?_
        refine aj_iald (y := nI (aj_uR G a)) hx hb hK hP 7 0 rfl rfl (by omega) (by decide) (hC.r h2) dX0_share_46 ?_
        refine lv_goto (tgt := 63) hx hb dX0_share_47 (by decide) ?_
        exact hret (nI (aj_uR G a)) _ _ dX0_share_63 ((by first | (subst c_38; rfl) | (obtain rfl : i = 3 := by omega); rfl))
    ·
      refine lv_aload_n hx hb dX0_share_15 rfl (lv_at hl 0 rfl) ?_
      refine va_get (D := D) (ci := 0) (v := .ref (ad 6)) (C := RX0) (T := TX0) (N := 9) hx hb hts in_X0 hown hK hP 0 rfl rfl 6 (by decide) (hts _ q38) (fun _ h9 => h9) rfl dX0_share_16 ?_
      refine lv_iload_n hx hb dX0_share_19 rfl (lv_at hl 2 rfl) ?_
      refine aj_iald (y := nI (aj_uQ G a)) hx hb hK hP 6 0 rfl rfl (by omega) (by decide) (hC.q h2) dX0_share_20 ?_
      refine lv_aload_n hx hb dX0_share_21 rfl (lv_at hl 0 rfl) ?_
      refine va_get (D := D) (ci := 0) (v := .ref (ad 4)) (C := RX0) (T := TX0) (N := 9) hx hb hts in_X0 hown hK hP 0 rfl rfl 4 (by decide) (hts _ q36) (fun _ h9 => h9) rfl dX0_share_22 ?_
      refine lv_iload_n hx hb dX0_share_25 rfl (lv_at hl 2 rfl) ?_
      refine aj_iald (y := nI (aj_cT G a)) hx hb hK hP 4 0 rfl rfl (by omega) (by decide) (hC.T h2) dX0_share_26 ?_
      refine aj_imul hx hb dX0_share_27 ?_
      refine lv_aload_n hx hb dX0_share_28 rfl (lv_at hl 0 rfl) ?_
      refine va_get (D := D) (ci := 0) (v := .ref (ad 3)) (C := RX0) (T := TX0) (N := 9) hx hb hts in_X0 hown hK hP 0 rfl rfl 3 (by decide) (hts _ q35) (fun _ h9 => h9) rfl dX0_share_29 ?_
      refine lv_iload_n hx hb dX0_share_32 rfl (lv_at hl 3 rfl) ?_
      refine aj_iald (y := nI (aj_cR G b)) hx hb hK hP 3 0 rfl rfl (by omega) (by decide) (hC.R h3) dX0_share_33 ?_
      refine aj_imul hx hb dX0_share_34 ?_
      exact hret (nI (((aj_uQ G a) * (aj_cT G a)) * (aj_cR G b))) _ _ dX0_share_35 ((by subst c_12; rfl))
  ·
    refine lv_aload_n hx hb dX0_share_4 rfl (lv_at hl 0 rfl) ?_
    refine lv_iload_n hx hb dX0_share_5 rfl (lv_at hl 3 rfl) ?_
    refine aj_callR (As := [.int (nI b)]) (rest := []) F (aj_behind l hC h3) aj_gX0_X0_behind aj_hX0_behind (aj_rmR (by decide) (by decide)) rfl rfl hK hP (va_recv (q0 := 0) hK hP (ci := 0) rfl rfl) rfl hl.1 rfl (Nat.le_of_ble_eq_true rfl) ⟨Nat.zero_le _, Nat.zero_le _⟩ dX0_share_6 ?_
    exact hret (nI (aj_be G b)) _ _ dX0_share_9 ((by subst c_1; rfl))

end
end
section
section
theorem aj_out_no {n : Nat} {x : Int32} (h : aj_out n x = true) (h0 : ¬ x < 0) : ¬ x < nI n := by
  intro h1
  simp [aj_out, h0] at h
  exact absurd h1 (Int32.not_lt.mpr h)
end
end
section
section
set_option maxHeartbeats 4000000 in
set_option maxRecDepth 100000 in
theorem aj_below (l : Launch) {D : va_G} {ad : Nat → Nat} {d : ClassId} {N S : Nat → Int32} {pd : Int32} {dR dT dQ uQ uR : Nat → Int32} {re : Int32} {G : aj_T} (hG : aj_Rel N G) (hC : aj_Ca G dR dT dQ uQ uR) {i a bo sc k : Nat} (h1 : i < 4) (h2 : a < 8) (h3 : bo ≤ 8) (h4 : k < 3) : aj_MR l yX0_below cX0_below 8 .int 1 D [(d, .int)] [.ref (ad 0), .int (nI i), .int (nI a), .int (nI bo), .int (nI sc), .int (nI k)] (aj_cP D ad d N S pd dR dT dQ uQ uR re) (nI (aj_sm (aj_st G i a sc k) bo)) := by
  refine aj_ro RX0 (by decide) rfl (Nat.le_of_ble_eq_true rfl) (fun v h => aj_nI rfl v) ?_
  intro p e s m args below meth c ls Q F hK hP hl hret
  obtain ⟨hx, hb, hml, hown, hts⟩ := id F
  have hP : va_P D aj_cl (aj_cW ad d N S pd dR dT dQ uQ uR re) s.heap := hP
  have hl : lv_has ls 8 [(0, .ref (ad 0)), (1, .int (nI i)), (2, .int (nI a)), (3, .int (nI bo)), (4, .int (nI sc)), (5, .int (nI k))] := hl
  refine lv_iconst (v := nI 0) hx hb dX0_below_0 (by decide) ?_
  refine lv_istore (lv' := [(6, .int (nI 0)), (0, .ref (ad 0)), (1, .int (nI i)), (2, .int (nI a)), (3, .int (nI bo)), (4, .int (nI sc)), (5, .int (nI k))]) hx hb dX0_below_1 hl (by decide) rfl (fun ls hl => ?_)
  refine lv_iconst (v := nI 0) hx hb dX0_below_3 (by decide) ?_
  refine lv_istore (lv' := [(7, .int (nI 0)), (6, .int (nI 0)), (0, .ref (ad 0)), (1, .int (nI i)), (2, .int (nI a)), (3, .int (nI bo)), (4, .int (nI sc)), (5, .int (nI k))]) hx hb dX0_below_4 hl (by decide) rfl (fun ls hl => ?_)
  have L_6 : ∀ (n_6 : Nat), ∀ (b : Nat) (y : Int32), y = nI (aj_sm (aj_st G i a sc k) b) → b ≤ bo → bo + 1 ≤ b + n_6 → ∀ (ls : Array Slot), lv_has ls 8 [(0, .ref (ad 0)), (1, .int (nI i)), (2, .int (nI a)), (3, .int (nI bo)), (4, .int (nI sc)), (5, .int (nI k)), (6, .int y), (7, .int (nI b))] → W p l e (aj_rm 1) s m args below meth c s.heap [] 0 0 Q (F0 m 6 ls []) := by
    intro n_6
    induction n_6 with
    | zero =>
      intro b y e_y hv hfu ls hl
      exfalso; omega
    | succ n_6 ih_6 =>
      intro b y e_y hv hfu ls hl
      subst e_y
      refine lv_iload hx hb dX0_below_6 (lv_at hl 7 rfl) ?_
      refine lv_iload_n hx hb dX0_below_8 rfl (lv_at hl 3 rfl) ?_
      refine aj_ge (tgt := 68) hx hb (by omega) (by omega) dX0_below_9 (by decide) (fun c_9 => ?_) (fun c_9 => ?_)
      ·
        refine lv_iload hx hb dX0_below_68 (lv_at hl 6 rfl) ?_
        exact hret (nI (aj_sm (aj_st G i a sc k) b)) _ _ dX0_below_70 ((by rw [show b = bo by omega]))
      ·
        refine lv_aload_n hx hb dX0_below_12 rfl (lv_at hl 0 rfl) ?_
        refine lv_iload_n hx hb dX0_below_13 rfl (lv_at hl 1 rfl) ?_
        refine lv_iload_n hx hb dX0_below_14 rfl (lv_at hl 2 rfl) ?_
        refine lv_iload hx hb dX0_below_15 (lv_at hl 7 rfl) ?_
        refine aj_callR (As := [.int (nI i), .int (nI a), .int (nI b)]) (rest := []) F (aj_there l hG h1 h2 (by omega)) aj_gX0_X0_there aj_hX0_there (aj_rmR (by decide) (by decide)) rfl rfl hK hP (va_recv (q0 := 0) hK hP (ci := 0) rfl rfl) rfl hl.1 rfl (Nat.le_of_ble_eq_true rfl) ⟨Nat.zero_le _, Nat.zero_le _⟩ dX0_below_17 ?_
        refine aj_ifeqB (tgt := 62) hx hb dX0_below_20 (by decide) (fun c_20 => ?_) (fun c_20 => ?_)
        ·
          refine lv_iinc (v := nI (b + 1)) (lv' := [(7, .int (nI (b + 1))), (0, .ref (ad 0)), (1, .int (nI i)), (2, .int (nI a)), (3, .int (nI bo)), (4, .int (nI sc)), (5, .int (nI k)), (6, .int (nI (aj_sm (aj_st G i a sc k) b)))]) hx hb dX0_below_62 hl (k := 7) rfl (nI_add b 1) (by decide) rfl (fun ls hl => ?_)
          refine lv_goto (tgt := 6) hx hb dX0_below_65 (by decide) ?_
          exact ih_6 (b + 1) (nI (aj_sm (aj_st G i a sc k) b)) (by simp [aj_sm, aj_st, aj_kv, *]) (by omega) (by omega) _ (lv_sub hl [1, 2, 3, 4, 5, 6, 7, 0] rfl)
        ·
          refine lv_iload hx hb dX0_below_23 (lv_at hl 6 rfl) ?_
          refine lv_iload hx hb dX0_below_25 (lv_at hl 4 rfl) ?_
          refine lv_iload hx hb dX0_below_27 (lv_at hl 5 rfl) ?_
          refine aj_ifne (tgt := 41) hx hb (by omega) dX0_below_29 (by decide) (fun c_29 => ?_) (fun c_29 => ?_)
          ·
            refine lv_iload hx hb dX0_below_41 (lv_at hl 5 rfl) ?_
            refine lv_iconst (v := nI 1) hx hb dX0_below_43 (by decide) ?_
            refine aj_ne (tgt := 57) hx hb (by omega) (by decide) dX0_below_44 (by decide) (fun c_44 => ?_) (fun c_44 => ?_)
            ·
              have hk2 : k = 2 := by omega
              refine lv_iconst (v := nI 1) hx hb dX0_below_57 (by decide) ?_
              refine aj_imul hx hb dX0_below_58 ?_
              refine aj_iadd hx hb dX0_below_59 ?_
              refine lv_istore (lv' := [(6, .int (nI ((aj_sm (aj_st G i a sc k) b) + (sc * 1)))), (0, .ref (ad 0)), (1, .int (nI i)), (2, .int (nI a)), (3, .int (nI bo)), (4, .int (nI sc)), (5, .int (nI k)), (7, .int (nI b))]) hx hb dX0_below_60 hl (by decide) rfl (fun ls hl => ?_)
              refine lv_iinc (v := nI (b + 1)) (lv' := [(7, .int (nI (b + 1))), (6, .int (nI ((aj_sm (aj_st G i a sc k) b) + (sc * 1)))), (0, .ref (ad 0)), (1, .int (nI i)), (2, .int (nI a)), (3, .int (nI bo)), (4, .int (nI sc)), (5, .int (nI k))]) hx hb dX0_below_62 hl (k := 7) rfl (nI_add b 1) (by decide) rfl (fun ls hl => ?_)
              refine lv_goto (tgt := 6) hx hb dX0_below_65 (by decide) ?_
              exact ih_6 (b + 1) (nI ((aj_sm (aj_st G i a sc k) b) + (sc * 1))) (by simp [aj_sm, aj_st, aj_kv, *]) (by omega) (by omega) _ (lv_sub hl [2, 3, 4, 5, 6, 7, 1, 0] rfl)
            ·
              refine lv_aload_n hx hb dX0_below_47 rfl (lv_at hl 0 rfl) ?_
              refine va_get (D := D) (ci := 0) (v := .ref (ad 3)) (C := RX0) (T := TX0) (N := 9) hx hb hts in_X0 hown hK hP 0 rfl rfl 3 (by decide) (hts _ q35) (fun _ h9 => h9) rfl dX0_below_48 ?_
              refine lv_iload hx hb dX0_below_51 (lv_at hl 7 rfl) ?_
              refine aj_iald (y := nI (aj_cR G b)) hx hb hK hP 3 0 rfl rfl (by omega) (by decide) (hC.R (by omega)) dX0_below_53 ?_
              refine lv_goto (tgt := 58) hx hb dX0_below_54 (by decide) ?_
              refine aj_imul hx hb dX0_below_58 ?_
              refine aj_iadd hx hb dX0_below_59 ?_
              refine lv_istore (lv' := [(6, .int (nI ((aj_sm (aj_st G i a sc k) b) + (sc * (aj_cR G b))))), (0, .ref (ad 0)), (1, .int (nI i)), (2, .int (nI a)), (3, .int (nI bo)), (4, .int (nI sc)), (5, .int (nI k)), (7, .int (nI b))]) hx hb dX0_below_60 hl (by decide) rfl (fun ls hl => ?_)
              refine lv_iinc (v := nI (b + 1)) (lv' := [(7, .int (nI (b + 1))), (6, .int (nI ((aj_sm (aj_st G i a sc k) b) + (sc * (aj_cR G b))))), (0, .ref (ad 0)), (1, .int (nI i)), (2, .int (nI a)), (3, .int (nI bo)), (4, .int (nI sc)), (5, .int (nI k))]) hx hb dX0_below_62 hl (k := 7) rfl (nI_add b 1) (by decide) rfl (fun ls hl => ?_)
              refine lv_goto (tgt := 6) hx hb dX0_below_65 (by decide) ?_
              exact ih_6 (b + 1) (nI ((aj_sm (aj_st G i a sc k) b) + (sc * (aj_cR G b)))) (by simp [aj_sm, aj_st, aj_kv, *]) (by omega) (by omega) _ (lv_sub hl [2, 3, 4, 5, 6, 7, 1, 0] rfl)
          ·
            refine lv_aload_n hx hb dX0_below_32 rfl (lv_at hl 0 rfl) ?_
            refine lv_iload hx hb dX0_below_33 (lv_at hl 7 rfl) ?_
            refine aj_callR (As := [.int (nI b)]) (rest := [.int (nI sc), .int (nI (aj_sm (aj_st G i a sc k) b))]) F (aj_behind l hC (by omega)) aj_gX0_X0_behind aj_hX0_behind (aj_rmR (by decide) (by decide)) rfl rfl hK hP (va_recv (q0 := 0) hK hP (ci := 0) rfl rfl) rfl hl.1 rfl (Nat.le_of_ble_eq_true rfl) ⟨Nat.zero_le _, Nat.zero_le _⟩ dX0_below_35 ?_
            refine lv_goto (tgt := 58) hx hb dX0_below_38 (by decide) ?_
            refine aj_imul hx hb dX0_below_58 ?_
            refine aj_iadd hx hb dX0_below_59 ?_
            refine lv_istore (lv' := [(6, .int (nI ((aj_sm (aj_st G i a sc k) b) + (sc * (aj_be G b))))), (0, .ref (ad 0)), (1, .int (nI i)), (2, .int (nI a)), (3, .int (nI bo)), (4, .int (nI sc)), (5, .int (nI k)), (7, .int (nI b))]) hx hb dX0_below_60 hl (by decide) rfl (fun ls hl => ?_)
            refine lv_iinc (v := nI (b + 1)) (lv' := [(7, .int (nI (b + 1))), (6, .int (nI ((aj_sm (aj_st G i a sc k) b) + (sc * (aj_be G b))))), (0, .ref (ad 0)), (1, .int (nI i)), (2, .int (nI a)), (3, .int (nI bo)), (4, .int (nI sc)), (5, .int (nI k))]) hx hb dX0_below_62 hl (k := 7) rfl (nI_add b 1) (by decide) rfl (fun ls hl => ?_)
            refine lv_goto (tgt := 6) hx hb dX0_below_65 (by decide) ?_
            exact ih_6 (b + 1) (nI ((aj_sm (aj_st G i a sc k) b) + (sc * (aj_be G b)))) (by simp [aj_sm, aj_st, aj_kv, *]) (by omega) (by omega) _ (lv_sub hl [2, 3, 4, 5, 6, 7, 1, 0] rfl)
  exact L_6 (bo + 1) 0 (nI 0) (by simp [aj_sm, aj_st, aj_kv, *]) (by omega) (by omega) _ (lv_sub hl [2, 3, 4, 5, 6, 7, 1, 0] rfl)

set_option maxHeartbeats 4000000 in
set_option maxRecDepth 100000 in
theorem aj_inColumn0 (l : Launch) {D : va_G} {ad : Nat → Nat} {d : ClassId} {N S : Nat → Int32} {pd : Int32} {dR dT dQ uQ uR : Nat → Int32} {re : Int32} {G : aj_T} (hG : aj_Rel N G) (hC : aj_Ca G dR dT dQ uQ uR) {v : Nat} (h1 : v < 8) : aj_MR l yX0_inColumn cX0_inColumn 5 .int 2 D [(d, .int)] [.ref (ad 0), .int (nI 0), .int (nI v)] (aj_cP D ad d N S pd dR dT dQ uQ uR re) (nI (aj_col G 0 v)) := by
  refine aj_ro RX0 (by decide) rfl (Nat.le_of_ble_eq_true rfl) (fun v h => aj_nI rfl v) ?_
  intro p e s m args below meth c ls Q F hK hP hl hret
  obtain ⟨hx, hb, hml, hown, hts⟩ := id F
  have hP : va_P D aj_cl (aj_cW ad d N S pd dR dT dQ uQ uR re) s.heap := hP
  have hl : lv_has ls 5 [(0, .ref (ad 0)), (1, .int (nI 0)), (2, .int (nI v))] := hl
  refine lv_iconst (v := nI 0) hx hb dX0_inColumn_0 (by decide) ?_
  refine lv_istore_n (lv' := [(3, .int (nI 0)), (0, .ref (ad 0)), (1, .int (nI 0)), (2, .int (nI v))]) hx hb dX0_inColumn_1 rfl hl (by decide) rfl (fun ls hl => ?_)
  refine lv_iconst (v := nI 0) hx hb dX0_inColumn_2 (by decide) ?_
  refine lv_istore (lv' := [(4, .int (nI 0)), (3, .int (nI 0)), (0, .ref (ad 0)), (1, .int (nI 0)), (2, .int (nI v))]) hx hb dX0_inColumn_3 hl (by decide) rfl (fun ls hl => ?_)
  have L_5 : ∀ (n_5 : Nat), ∀ (x : Nat) (y : Int32), y = nI (aj_sm (aj_ic G 0 v) x) → x ≤ 8 → 9 ≤ x + n_5 → ∀ (ls : Array Slot), lv_has ls 5 [(0, .ref (ad 0)), (1, .int (nI 0)), (2, .int (nI v)), (3, .int y), (4, .int (nI x))] → W p l e (aj_rm 2) s m args below meth c s.heap [] 0 0 Q (F0 m 5 ls []) := by
    intro n_5
    induction n_5 with
    | zero =>
      intro x y e_y hv hfu ls hl
      exfalso; omega
    | succ n_5 ih_5 =>
      intro x y e_y hv hfu ls hl
      subst e_y
      refine lv_iload hx hb dX0_inColumn_5 (lv_at hl 4 rfl) ?_
      refine lv_bipush (v := nI 8) hx hb dX0_inColumn_7 (by decide) ?_
      refine aj_ge (tgt := 152) hx hb (by omega) (by decide) dX0_inColumn_9 (by decide) (fun c_9 => ?_) (fun c_9 => ?_)
      ·
        refine lv_iload_n hx hb dX0_inColumn_152 rfl (lv_at hl 3 rfl) ?_
        exact hret (nI (aj_sm (aj_ic G 0 v) x)) _ _ dX0_inColumn_153 ((by rw [show x = 8 by omega]; rfl))
      ·
        refine lv_iload_n hx hb dX0_inColumn_12 rfl (lv_at hl 1 rfl) ?_
        refine aj_ifne (tgt := 38) hx hb (by omega) dX0_inColumn_13 (by decide) (fun c_13 => ?_) (fun c_13 => ?_)
        ·
          exfalso; omega
        ·
          refine lv_aload_n hx hb dX0_inColumn_16 rfl (lv_at hl 0 rfl) ?_
          refine lv_iconst (v := nI 0) hx hb dX0_inColumn_17 (by decide) ?_
          refine lv_iload_n hx hb dX0_inColumn_18 rfl (lv_at hl 2 rfl) ?_
          refine lv_iload hx hb dX0_inColumn_19 (lv_at hl 4 rfl) ?_
          refine aj_callR (As := [.int (nI 0), .int (nI v), .int (nI x)]) (rest := []) F (aj_there l hG (by decide) (by omega) (by omega)) aj_gX0_X0_there aj_hX0_there (aj_rmR (by decide) (by decide)) rfl rfl hK hP (va_recv (q0 := 0) hK hP (ci := 0) rfl rfl) rfl hl.1 rfl (Nat.le_of_ble_eq_true rfl) ⟨Nat.zero_le _, Nat.zero_le _⟩ dX0_inColumn_21 ?_
          refine aj_ifeqB (tgt := 38) hx hb dX0_inColumn_24 (by decide) (fun c_24 => ?_) (fun c_24 => ?_)
          ·
            refine lv_iload_n hx hb dX0_inColumn_38 rfl (lv_at hl 1 rfl) ?_
            refine lv_iconst (v := nI 1) hx hb dX0_inColumn_39 (by decide) ?_
            refine aj_ne (tgt := 65) hx hb (by decide) (by decide) dX0_inColumn_40 (by decide) (fun c_40 => ?_) (fun c_40 => ?_)
            ·
              refine lv_iload_n hx hb dX0_inColumn_65 rfl (lv_at hl 1 rfl) ?_
              refine lv_iconst (v := nI 2) hx hb dX0_inColumn_66 (by decide) ?_
              refine aj_ne (tgt := 92) hx hb (by decide) (by decide) dX0_inColumn_67 (by decide) (fun c_67 => ?_) (fun c_67 => ?_)
              ·
                refine lv_iload_n hx hb dX0_inColumn_92 rfl (lv_at hl 1 rfl) ?_
                refine lv_iconst (v := nI 3) hx hb dX0_inColumn_93 (by decide) ?_
                refine aj_ne (tgt := 119) hx hb (by decide) (by decide) dX0_inColumn_94 (by decide) (fun c_94 => ?_) (fun c_94 => ?_)
                ·
                  refine lv_iload_n hx hb dX0_inColumn_119 rfl (lv_at hl 1 rfl) ?_
                  refine lv_iconst (v := nI 4) hx hb dX0_inColumn_120 (by decide) ?_
                  refine aj_ne (tgt := 146) hx hb (by decide) (by decide) dX0_inColumn_121 (by decide) (fun c_121 => ?_) (fun c_121 => ?_)
                  ·
                    refine lv_iinc (v := nI (x + 1)) (lv' := [(4, .int (nI (x + 1))), (0, .ref (ad 0)), (1, .int (nI 0)), (2, .int (nI v)), (3, .int (nI (aj_sm (aj_ic G 0 v) x)))]) hx hb dX0_inColumn_146 hl (k := 4) rfl (nI_add x 1) (by decide) rfl (fun ls hl => ?_)
                    refine lv_goto (tgt := 5) hx hb dX0_inColumn_149 (by decide) ?_
                    exact ih_5 (x + 1) (nI (aj_sm (aj_ic G 0 v) x)) (by simp [aj_sm, aj_ic, *]) (by omega) (by omega) _ (lv_sub hl [1, 2, 3, 4, 0] rfl)
                  ·
                    exfalso; omega
                ·
                  exfalso; omega
              ·
                exfalso; omega
            ·
              exfalso; omega
          ·
            refine lv_iload_n hx hb dX0_inColumn_27 rfl (lv_at hl 3 rfl) ?_
            refine lv_aload_n hx hb dX0_inColumn_28 rfl (lv_at hl 0 rfl) ?_
            refine lv_iconst (v := nI 0) hx hb dX0_inColumn_29 (by decide) ?_
            refine lv_iload_n hx hb dX0_inColumn_30 rfl (lv_at hl 2 rfl) ?_
            refine lv_iload hx hb dX0_inColumn_31 (lv_at hl 4 rfl) ?_
            refine aj_callR (As := [.int (nI 0), .int (nI v), .int (nI x)]) (rest := [.int (nI (aj_sm (aj_ic G 0 v) x))]) F (aj_share l hC (by decide) (by omega) (by omega)) aj_gX0_X0_share aj_hX0_share (aj_rmR (by decide) (by decide)) rfl rfl hK hP (va_recv (q0 := 0) hK hP (ci := 0) rfl rfl) rfl hl.1 rfl (Nat.le_of_ble_eq_true rfl) ⟨Nat.zero_le _, Nat.zero_le _⟩ dX0_inColumn_33 ?_
            refine aj_iadd hx hb dX0_inColumn_36 ?_
            refine lv_istore_n (lv' := [(3, .int (nI ((aj_sm (aj_ic G 0 v) x) + (aj_sh G 0 v x)))), (0, .ref (ad 0)), (1, .int (nI 0)), (2, .int (nI v)), (4, .int (nI x))]) hx hb dX0_inColumn_37 rfl hl (by decide) rfl (fun ls hl => ?_)
            refine lv_iload_n hx hb dX0_inColumn_38 rfl (lv_at hl 2 rfl) ?_
            refine lv_iconst (v := nI 1) hx hb dX0_inColumn_39 (by decide) ?_
            refine aj_ne (tgt := 65) hx hb (by decide) (by decide) dX0_inColumn_40 (by decide) (fun c_40 => ?_) (fun c_40 => ?_)
            ·
              refine lv_iload_n hx hb dX0_inColumn_65 rfl (lv_at hl 2 rfl) ?_
              refine lv_iconst (v := nI 2) hx hb dX0_inColumn_66 (by decide) ?_
              refine aj_ne (tgt := 92) hx hb (by decide) (by decide) dX0_inColumn_67 (by decide) (fun c_67 => ?_) (fun c_67 => ?_)
              ·
                refine lv_iload_n hx hb dX0_inColumn_92 rfl (lv_at hl 2 rfl) ?_
                refine lv_iconst (v := nI 3) hx hb dX0_inColumn_93 (by decide) ?_
                refine aj_ne (tgt := 119) hx hb (by decide) (by decide) dX0_inColumn_94 (by decide) (fun c_94 => ?_) (fun c_94 => ?_)
                ·
                  refine lv_iload_n hx hb dX0_inColumn_119 rfl (lv_at hl 2 rfl) ?_
                  refine lv_iconst (v := nI 4) hx hb dX0_inColumn_120 (by decide) ?_
                  refine aj_ne (tgt := 146) hx hb (by decide) (by decide) dX0_inColumn_121 (by decide) (fun c_121 => ?_) (fun c_121 => ?_)
                  ·
                    refine lv_iinc (v := nI (x + 1)) (lv' := [(4, .int (nI (x + 1))), (3, .int (nI ((aj_sm (aj_ic G 0 v) x) + (aj_sh G 0 v x)))), (0, .ref (ad 0)), (1, .int (nI 0)), (2, .int (nI v))]) hx hb dX0_inColumn_146 hl (k := 4) rfl (nI_add x 1) (by decide) rfl (fun ls hl => ?_)
                    refine lv_goto (tgt := 5) hx hb dX0_inColumn_149 (by decide) ?_
                    exact ih_5 (x + 1) (nI ((aj_sm (aj_ic G 0 v) x) + (aj_sh G 0 v x))) (by simp [aj_sm, aj_ic, *]) (by omega) (by omega) _ (lv_sub hl [2, 3, 4, 1, 0] rfl)
                  ·
                    exfalso; omega
                ·
                  exfalso; omega
              ·
                exfalso; omega
            ·
              exfalso; omega
  exact L_5 9 0 (nI 0) (by simp [aj_sm, aj_ic, *]) (by omega) (by omega) _ (lv_sub hl [2, 3, 4, 1, 0] rfl)

set_option maxHeartbeats 4000000 in
set_option maxRecDepth 100000 in
theorem aj_inColumn1 (l : Launch) {D : va_G} {ad : Nat → Nat} {d : ClassId} {N S : Nat → Int32} {pd : Int32} {dR dT dQ uQ uR : Nat → Int32} {re : Int32} {G : aj_T} (hG : aj_Rel N G) (hC : aj_Ca G dR dT dQ uQ uR) {v : Nat} (h1 : v < 8) : aj_MR l yX0_inColumn cX0_inColumn 5 .int 2 D [(d, .int)] [.ref (ad 0), .int (nI 1), .int (nI v)] (aj_cP D ad d N S pd dR dT dQ uQ uR re) (nI (aj_col G 1 v)) := by
  refine aj_ro RX0 (by decide) rfl (Nat.le_of_ble_eq_true rfl) (fun v h => aj_nI rfl v) ?_
  intro p e s m args below meth c ls Q F hK hP hl hret
  obtain ⟨hx, hb, hml, hown, hts⟩ := id F
  have hP : va_P D aj_cl (aj_cW ad d N S pd dR dT dQ uQ uR re) s.heap := hP
  have hl : lv_has ls 5 [(0, .ref (ad 0)), (1, .int (nI 1)), (2, .int (nI v))] := hl
  refine lv_iconst (v := nI 0) hx hb dX0_inColumn_0 (by decide) ?_
  refine lv_istore_n (lv' := [(3, .int (nI 0)), (0, .ref (ad 0)), (1, .int (nI 1)), (2, .int (nI v))]) hx hb dX0_inColumn_1 rfl hl (by decide) rfl (fun ls hl => ?_)
  refine lv_iconst (v := nI 0) hx hb dX0_inColumn_2 (by decide) ?_
  refine lv_istore (lv' := [(4, .int (nI 0)), (3, .int (nI 0)), (0, .ref (ad 0)), (1, .int (nI 1)), (2, .int (nI v))]) hx hb dX0_inColumn_3 hl (by decide) rfl (fun ls hl => ?_)
  have L_5 : ∀ (n_5 : Nat), ∀ (x : Nat) (y : Int32), y = nI (aj_sm (aj_ic G 1 v) x) → x ≤ 8 → 9 ≤ x + n_5 → ∀ (ls : Array Slot), lv_has ls 5 [(0, .ref (ad 0)), (1, .int (nI 1)), (2, .int (nI v)), (3, .int y), (4, .int (nI x))] → W p l e (aj_rm 2) s m args below meth c s.heap [] 0 0 Q (F0 m 5 ls []) := by
    intro n_5
    induction n_5 with
    | zero =>
      intro x y e_y hv hfu ls hl
      exfalso; omega
    | succ n_5 ih_5 =>
      intro x y e_y hv hfu ls hl
      subst e_y
      refine lv_iload hx hb dX0_inColumn_5 (lv_at hl 4 rfl) ?_
      refine lv_bipush (v := nI 8) hx hb dX0_inColumn_7 (by decide) ?_
      refine aj_ge (tgt := 152) hx hb (by omega) (by decide) dX0_inColumn_9 (by decide) (fun c_9 => ?_) (fun c_9 => ?_)
      ·
        refine lv_iload_n hx hb dX0_inColumn_152 rfl (lv_at hl 3 rfl) ?_
        exact hret (nI (aj_sm (aj_ic G 1 v) x)) _ _ dX0_inColumn_153 ((by rw [show x = 8 by omega]; rfl))
      ·
        refine lv_iload_n hx hb dX0_inColumn_12 rfl (lv_at hl 1 rfl) ?_
        refine aj_ifne (tgt := 38) hx hb (by omega) dX0_inColumn_13 (by decide) (fun c_13 => ?_) (fun c_13 => ?_)
        ·
          refine lv_iload_n hx hb dX0_inColumn_38 rfl (lv_at hl 1 rfl) ?_
          refine lv_iconst (v := nI 1) hx hb dX0_inColumn_39 (by decide) ?_
          refine aj_ne (tgt := 65) hx hb (by decide) (by decide) dX0_inColumn_40 (by decide) (fun c_40 => ?_) (fun c_40 => ?_)
          ·
            exfalso; omega
          ·
            refine lv_aload_n hx hb dX0_inColumn_43 rfl (lv_at hl 0 rfl) ?_
            refine lv_iconst (v := nI 0) hx hb dX0_inColumn_44 (by decide) ?_
            refine lv_iload hx hb dX0_inColumn_45 (lv_at hl 4 rfl) ?_
            refine lv_iload_n hx hb dX0_inColumn_47 rfl (lv_at hl 2 rfl) ?_
            refine aj_callR (As := [.int (nI 0), .int (nI x), .int (nI v)]) (rest := []) F (aj_there l hG (by decide) (by omega) (by omega)) aj_gX0_X0_there aj_hX0_there (aj_rmR (by decide) (by decide)) rfl rfl hK hP (va_recv (q0 := 0) hK hP (ci := 0) rfl rfl) rfl hl.1 rfl (Nat.le_of_ble_eq_true rfl) ⟨Nat.zero_le _, Nat.zero_le _⟩ dX0_inColumn_48 ?_
            refine aj_ifeqB (tgt := 65) hx hb dX0_inColumn_51 (by decide) (fun c_51 => ?_) (fun c_51 => ?_)
            ·
              refine lv_iload_n hx hb dX0_inColumn_65 rfl (lv_at hl 1 rfl) ?_
              refine lv_iconst (v := nI 2) hx hb dX0_inColumn_66 (by decide) ?_
              refine aj_ne (tgt := 92) hx hb (by decide) (by decide) dX0_inColumn_67 (by decide) (fun c_67 => ?_) (fun c_67 => ?_)
              ·
                refine lv_iload_n hx hb dX0_inColumn_92 rfl (lv_at hl 1 rfl) ?_
                refine lv_iconst (v := nI 3) hx hb dX0_inColumn_93 (by decide) ?_
                refine aj_ne (tgt := 119) hx hb (by decide) (by decide) dX0_inColumn_94 (by decide) (fun c_94 => ?_) (fun c_94 => ?_)
                ·
                  refine lv_iload_n hx hb dX0_inColumn_119 rfl (lv_at hl 1 rfl) ?_
                  refine lv_iconst (v := nI 4) hx hb dX0_inColumn_120 (by decide) ?_
                  refine aj_ne (tgt := 146) hx hb (by decide) (by decide) dX0_inColumn_121 (by decide) (fun c_121 => ?_) (fun c_121 => ?_)
                  ·
                    refine lv_iinc (v := nI (x + 1)) (lv' := [(4, .int (nI (x + 1))), (0, .ref (ad 0)), (1, .int (nI 1)), (2, .int (nI v)), (3, .int (nI (aj_sm (aj_ic G 1 v) x)))]) hx hb dX0_inColumn_146 hl (k := 4) rfl (nI_add x 1) (by decide) rfl (fun ls hl => ?_)
                    refine lv_goto (tgt := 5) hx hb dX0_inColumn_149 (by decide) ?_
                    exact ih_5 (x + 1) (nI (aj_sm (aj_ic G 1 v) x)) (by simp [aj_sm, aj_ic, *]) (by omega) (by omega) _ (lv_sub hl [1, 2, 3, 4, 0] rfl)
                  ·
                    exfalso; omega
                ·
                  exfalso; omega
              ·
                exfalso; omega
            ·
              refine lv_iload_n hx hb dX0_inColumn_54 rfl (lv_at hl 3 rfl) ?_
              refine lv_aload_n hx hb dX0_inColumn_55 rfl (lv_at hl 0 rfl) ?_
              refine lv_iconst (v := nI 0) hx hb dX0_inColumn_56 (by decide) ?_
              refine lv_iload hx hb dX0_inColumn_57 (lv_at hl 4 rfl) ?_
              refine lv_iload_n hx hb dX0_inColumn_59 rfl (lv_at hl 2 rfl) ?_
              refine aj_callR (As := [.int (nI 0), .int (nI x), .int (nI v)]) (rest := [.int (nI (aj_sm (aj_ic G 1 v) x))]) F (aj_share l hC (by decide) (by omega) (by omega)) aj_gX0_X0_share aj_hX0_share (aj_rmR (by decide) (by decide)) rfl rfl hK hP (va_recv (q0 := 0) hK hP (ci := 0) rfl rfl) rfl hl.1 rfl (Nat.le_of_ble_eq_true rfl) ⟨Nat.zero_le _, Nat.zero_le _⟩ dX0_inColumn_60 ?_
              refine aj_iadd hx hb dX0_inColumn_63 ?_
              refine lv_istore_n (lv' := [(3, .int (nI ((aj_sm (aj_ic G 1 v) x) + (aj_sh G 0 x v)))), (0, .ref (ad 0)), (1, .int (nI 1)), (2, .int (nI v)), (4, .int (nI x))]) hx hb dX0_inColumn_64 rfl hl (by decide) rfl (fun ls hl => ?_)
              refine lv_iload_n hx hb dX0_inColumn_65 rfl (lv_at hl 2 rfl) ?_
              refine lv_iconst (v := nI 2) hx hb dX0_inColumn_66 (by decide) ?_
              refine aj_ne (tgt := 92) hx hb (by decide) (by decide) dX0_inColumn_67 (by decide) (fun c_67 => ?_) (fun c_67 => ?_)
              ·
                refine lv_iload_n hx hb dX0_inColumn_92 rfl (lv_at hl 2 rfl) ?_
                refine lv_iconst (v := nI 3) hx hb dX0_inColumn_93 (by decide) ?_
                refine aj_ne (tgt := 119) hx hb (by decide) (by decide) dX0_inColumn_94 (by decide) (fun c_94 => ?_) (fun c_94 => ?_)
                ·
                  refine lv_iload_n hx hb dX0_inColumn_119 rfl (lv_at hl 2 rfl) ?_
                  refine lv_iconst (v := nI 4) hx hb dX0_inColumn_120 (by decide) ?_
                  refine aj_ne (tgt := 146) hx hb (by decide) (by decide) dX0_inColumn_121 (by decide) (fun c_121 => ?_) (fun c_121 => ?_)
                  ·
                    refine lv_iinc (v := nI (x + 1)) (lv' := [(4, .int (nI (x + 1))), (3, .int (nI ((aj_sm (aj_ic G 1 v) x) + (aj_sh G 0 x v)))), (0, .ref (ad 0)), (1, .int (nI 1)), (2, .int (nI v))]) hx hb dX0_inColumn_146 hl (k := 4) rfl (nI_add x 1) (by decide) rfl (fun ls hl => ?_)
                    refine lv_goto (tgt := 5) hx hb dX0_inColumn_149 (by decide) ?_
                    exact ih_5 (x + 1) (nI ((aj_sm (aj_ic G 1 v) x) + (aj_sh G 0 x v))) (by simp [aj_sm, aj_ic, *]) (by omega) (by omega) _ (lv_sub hl [2, 3, 4, 1, 0] rfl)
                  ·
                    exfalso; omega
                ·
                  exfalso; omega
              ·
                exfalso; omega
        ·
          exfalso; omega
  exact L_5 9 0 (nI 0) (by simp [aj_sm, aj_ic, *]) (by omega) (by omega) _ (lv_sub hl [2, 3, 4, 1, 0] rfl)

set_option maxHeartbeats 4000000 in
set_option maxRecDepth 100000 in
theorem aj_inColumn2 (l : Launch) {D : va_G} {ad : Nat → Nat} {d : ClassId} {N S : Nat → Int32} {pd : Int32} {dR dT dQ uQ uR : Nat → Int32} {re : Int32} {G : aj_T} (hG : aj_Rel N G) (hC : aj_Ca G dR dT dQ uQ uR) {v : Nat} (h1 : v < 8) : aj_MR l yX0_inColumn cX0_inColumn 5 .int 2 D [(d, .int)] [.ref (ad 0), .int (nI 2), .int (nI v)] (aj_cP D ad d N S pd dR dT dQ uQ uR re) (nI (aj_col G 2 v)) := by
  refine aj_ro RX0 (by decide) rfl (Nat.le_of_ble_eq_true rfl) (fun v h => aj_nI rfl v) ?_
  intro p e s m args below meth c ls Q F hK hP hl hret
  obtain ⟨hx, hb, hml, hown, hts⟩ := id F
  have hP : va_P D aj_cl (aj_cW ad d N S pd dR dT dQ uQ uR re) s.heap := hP
  have hl : lv_has ls 5 [(0, .ref (ad 0)), (1, .int (nI 2)), (2, .int (nI v))] := hl
  refine lv_iconst (v := nI 0) hx hb dX0_inColumn_0 (by decide) ?_
  refine lv_istore_n (lv' := [(3, .int (nI 0)), (0, .ref (ad 0)), (1, .int (nI 2)), (2, .int (nI v))]) hx hb dX0_inColumn_1 rfl hl (by decide) rfl (fun ls hl => ?_)
  refine lv_iconst (v := nI 0) hx hb dX0_inColumn_2 (by decide) ?_
  refine lv_istore (lv' := [(4, .int (nI 0)), (3, .int (nI 0)), (0, .ref (ad 0)), (1, .int (nI 2)), (2, .int (nI v))]) hx hb dX0_inColumn_3 hl (by decide) rfl (fun ls hl => ?_)
  have L_5 : ∀ (n_5 : Nat), ∀ (x : Nat) (y : Int32), y = nI (aj_sm (aj_ic G 2 v) x) → x ≤ 8 → 9 ≤ x + n_5 → ∀ (ls : Array Slot), lv_has ls 5 [(0, .ref (ad 0)), (1, .int (nI 2)), (2, .int (nI v)), (3, .int y), (4, .int (nI x))] → W p l e (aj_rm 2) s m args below meth c s.heap [] 0 0 Q (F0 m 5 ls []) := by
    intro n_5
    induction n_5 with
    | zero =>
      intro x y e_y hv hfu ls hl
      exfalso; omega
    | succ n_5 ih_5 =>
      intro x y e_y hv hfu ls hl
      subst e_y
      refine lv_iload hx hb dX0_inColumn_5 (lv_at hl 4 rfl) ?_
      refine lv_bipush (v := nI 8) hx hb dX0_inColumn_7 (by decide) ?_
      refine aj_ge (tgt := 152) hx hb (by omega) (by decide) dX0_inColumn_9 (by decide) (fun c_9 => ?_) (fun c_9 => ?_)
      ·
        refine lv_iload_n hx hb dX0_inColumn_152 rfl (lv_at hl 3 rfl) ?_
        exact hret (nI (aj_sm (aj_ic G 2 v) x)) _ _ dX0_inColumn_153 ((by rw [show x = 8 by omega]; rfl))
      ·
        refine lv_iload_n hx hb dX0_inColumn_12 rfl (lv_at hl 1 rfl) ?_
        refine aj_ifne (tgt := 38) hx hb (by omega) dX0_inColumn_13 (by decide) (fun c_13 => ?_) (fun c_13 => ?_)
        ·
          refine lv_iload_n hx hb dX0_inColumn_38 rfl (lv_at hl 1 rfl) ?_
          refine lv_iconst (v := nI 1) hx hb dX0_inColumn_39 (by decide) ?_
          refine aj_ne (tgt := 65) hx hb (by decide) (by decide) dX0_inColumn_40 (by decide) (fun c_40 => ?_) (fun c_40 => ?_)
          ·
            refine lv_iload_n hx hb dX0_inColumn_65 rfl (lv_at hl 1 rfl) ?_
            refine lv_iconst (v := nI 2) hx hb dX0_inColumn_66 (by decide) ?_
            refine aj_ne (tgt := 92) hx hb (by decide) (by decide) dX0_inColumn_67 (by decide) (fun c_67 => ?_) (fun c_67 => ?_)
            ·
              exfalso; omega
            ·
              refine lv_aload_n hx hb dX0_inColumn_70 rfl (lv_at hl 0 rfl) ?_
              refine lv_iconst (v := nI 1) hx hb dX0_inColumn_71 (by decide) ?_
              refine lv_iload hx hb dX0_inColumn_72 (lv_at hl 4 rfl) ?_
              refine lv_iload_n hx hb dX0_inColumn_74 rfl (lv_at hl 2 rfl) ?_
              refine aj_callR (As := [.int (nI 1), .int (nI x), .int (nI v)]) (rest := []) F (aj_there l hG (by decide) (by omega) (by omega)) aj_gX0_X0_there aj_hX0_there (aj_rmR (by decide) (by decide)) rfl rfl hK hP (va_recv (q0 := 0) hK hP (ci := 0) rfl rfl) rfl hl.1 rfl (Nat.le_of_ble_eq_true rfl) ⟨Nat.zero_le _, Nat.zero_le _⟩ dX0_inColumn_75 ?_
              refine aj_ifeqB (tgt := 92) hx hb dX0_inColumn_78 (by decide) (fun c_78 => ?_) (fun c_78 => ?_)
              ·
                refine lv_iload_n hx hb dX0_inColumn_92 rfl (lv_at hl 1 rfl) ?_
                refine lv_iconst (v := nI 3) hx hb dX0_inColumn_93 (by decide) ?_
                refine aj_ne (tgt := 119) hx hb (by decide) (by decide) dX0_inColumn_94 (by decide) (fun c_94 => ?_) (fun c_94 => ?_)
                ·
                  refine lv_iload_n hx hb dX0_inColumn_119 rfl (lv_at hl 1 rfl) ?_
                  refine lv_iconst (v := nI 4) hx hb dX0_inColumn_120 (by decide) ?_
                  refine aj_ne (tgt := 146) hx hb (by decide) (by decide) dX0_inColumn_121 (by decide) (fun c_121 => ?_) (fun c_121 => ?_)
                  ·
                    refine lv_iinc (v := nI (x + 1)) (lv' := [(4, .int (nI (x + 1))), (0, .ref (ad 0)), (1, .int (nI 2)), (2, .int (nI v)), (3, .int (nI (aj_sm (aj_ic G 2 v) x)))]) hx hb dX0_inColumn_146 hl (k := 4) rfl (nI_add x 1) (by decide) rfl (fun ls hl => ?_)
                    refine lv_goto (tgt := 5) hx hb dX0_inColumn_149 (by decide) ?_
                    exact ih_5 (x + 1) (nI (aj_sm (aj_ic G 2 v) x)) (by simp [aj_sm, aj_ic, *]) (by omega) (by omega) _ (lv_sub hl [1, 2, 3, 4, 0] rfl)
                  ·
                    exfalso; omega
                ·
                  exfalso; omega
              ·
                refine lv_iload_n hx hb dX0_inColumn_81 rfl (lv_at hl 3 rfl) ?_
                refine lv_aload_n hx hb dX0_inColumn_82 rfl (lv_at hl 0 rfl) ?_
                refine lv_iconst (v := nI 1) hx hb dX0_inColumn_83 (by decide) ?_
                refine lv_iload hx hb dX0_inColumn_84 (lv_at hl 4 rfl) ?_
                refine lv_iload_n hx hb dX0_inColumn_86 rfl (lv_at hl 2 rfl) ?_
                refine aj_callR (As := [.int (nI 1), .int (nI x), .int (nI v)]) (rest := [.int (nI (aj_sm (aj_ic G 2 v) x))]) F (aj_share l hC (by decide) (by omega) (by omega)) aj_gX0_X0_share aj_hX0_share (aj_rmR (by decide) (by decide)) rfl rfl hK hP (va_recv (q0 := 0) hK hP (ci := 0) rfl rfl) rfl hl.1 rfl (Nat.le_of_ble_eq_true rfl) ⟨Nat.zero_le _, Nat.zero_le _⟩ dX0_inColumn_87 ?_
                refine aj_iadd hx hb dX0_inColumn_90 ?_
                refine lv_istore_n (lv' := [(3, .int (nI ((aj_sm (aj_ic G 2 v) x) + (aj_sh G 1 x v)))), (0, .ref (ad 0)), (1, .int (nI 2)), (2, .int (nI v)), (4, .int (nI x))]) hx hb dX0_inColumn_91 rfl hl (by decide) rfl (fun ls hl => ?_)
                refine lv_iload_n hx hb dX0_inColumn_92 rfl (lv_at hl 2 rfl) ?_
                refine lv_iconst (v := nI 3) hx hb dX0_inColumn_93 (by decide) ?_
                refine aj_ne (tgt := 119) hx hb (by decide) (by decide) dX0_inColumn_94 (by decide) (fun c_94 => ?_) (fun c_94 => ?_)
                ·
                  refine lv_iload_n hx hb dX0_inColumn_119 rfl (lv_at hl 2 rfl) ?_
                  refine lv_iconst (v := nI 4) hx hb dX0_inColumn_120 (by decide) ?_
                  refine aj_ne (tgt := 146) hx hb (by decide) (by decide) dX0_inColumn_121 (by decide) (fun c_121 => ?_) (fun c_121 => ?_)
                  ·
                    refine lv_iinc (v := nI (x + 1)) (lv' := [(4, .int (nI (x + 1))), (3, .int (nI ((aj_sm (aj_ic G 2 v) x) + (aj_sh G 1 x v)))), (0, .ref (ad 0)), (1, .int (nI 2)), (2, .int (nI v))]) hx hb dX0_inColumn_146 hl (k := 4) rfl (nI_add x 1) (by decide) rfl (fun ls hl => ?_)
                    refine lv_goto (tgt := 5) hx hb dX0_inColumn_149 (by decide) ?_
                    exact ih_5 (x + 1) (nI ((aj_sm (aj_ic G 2 v) x) + (aj_sh G 1 x v))) (by simp [aj_sm, aj_ic, *]) (by omega) (by omega) _ (lv_sub hl [2, 3, 4, 1, 0] rfl)
                  ·
                    exfalso; omega
                ·
                  exfalso; omega
          ·
            exfalso; omega
        ·
          exfalso; omega
  exact L_5 9 0 (nI 0) (by simp [aj_sm, aj_ic, *]) (by omega) (by omega) _ (lv_sub hl [2, 3, 4, 1, 0] rfl)

set_option maxHeartbeats 4000000 in
set_option maxRecDepth 100000 in
theorem aj_inColumn3 (l : Launch) {D : va_G} {ad : Nat → Nat} {d : ClassId} {N S : Nat → Int32} {pd : Int32} {dR dT dQ uQ uR : Nat → Int32} {re : Int32} {G : aj_T} (hG : aj_Rel N G) (hC : aj_Ca G dR dT dQ uQ uR) {v : Nat} (h1 : v < 8) : aj_MR l yX0_inColumn cX0_inColumn 5 .int 2 D [(d, .int)] [.ref (ad 0), .int (nI 3), .int (nI v)] (aj_cP D ad d N S pd dR dT dQ uQ uR re) (nI (aj_col G 3 v)) := by
  refine aj_ro RX0 (by decide) rfl (Nat.le_of_ble_eq_true rfl) (fun v h => aj_nI rfl v) ?_
  intro p e s m args below meth c ls Q F hK hP hl hret
  obtain ⟨hx, hb, hml, hown, hts⟩ := id F
  have hP : va_P D aj_cl (aj_cW ad d N S pd dR dT dQ uQ uR re) s.heap := hP
  have hl : lv_has ls 5 [(0, .ref (ad 0)), (1, .int (nI 3)), (2, .int (nI v))] := hl
  refine lv_iconst (v := nI 0) hx hb dX0_inColumn_0 (by decide) ?_
  refine lv_istore_n (lv' := [(3, .int (nI 0)), (0, .ref (ad 0)), (1, .int (nI 3)), (2, .int (nI v))]) hx hb dX0_inColumn_1 rfl hl (by decide) rfl (fun ls hl => ?_)
  refine lv_iconst (v := nI 0) hx hb dX0_inColumn_2 (by decide) ?_
  refine lv_istore (lv' := [(4, .int (nI 0)), (3, .int (nI 0)), (0, .ref (ad 0)), (1, .int (nI 3)), (2, .int (nI v))]) hx hb dX0_inColumn_3 hl (by decide) rfl (fun ls hl => ?_)
  have L_5 : ∀ (n_5 : Nat), ∀ (x : Nat) (y : Int32), y = nI (aj_sm (aj_ic G 3 v) x) → x ≤ 8 → 9 ≤ x + n_5 → ∀ (ls : Array Slot), lv_has ls 5 [(0, .ref (ad 0)), (1, .int (nI 3)), (2, .int (nI v)), (3, .int y), (4, .int (nI x))] → W p l e (aj_rm 2) s m args below meth c s.heap [] 0 0 Q (F0 m 5 ls []) := by
    intro n_5
    induction n_5 with
    | zero =>
      intro x y e_y hv hfu ls hl
      exfalso; omega
    | succ n_5 ih_5 =>
      intro x y e_y hv hfu ls hl
      subst e_y
      refine lv_iload hx hb dX0_inColumn_5 (lv_at hl 4 rfl) ?_
      refine lv_bipush (v := nI 8) hx hb dX0_inColumn_7 (by decide) ?_
      refine aj_ge (tgt := 152) hx hb (by omega) (by decide) dX0_inColumn_9 (by decide) (fun c_9 => ?_) (fun c_9 => ?_)
      ·
        refine lv_iload_n hx hb dX0_inColumn_152 rfl (lv_at hl 3 rfl) ?_
        exact hret (nI (aj_sm (aj_ic G 3 v) x)) _ _ dX0_inColumn_153 ((by rw [show x = 8 by omega]; rfl))
      ·
        refine lv_iload_n hx hb dX0_inColumn_12 rfl (lv_at hl 1 rfl) ?_
        refine aj_ifne (tgt := 38) hx hb (by omega) dX0_inColumn_13 (by decide) (fun c_13 => ?_) (fun c_13 => ?_)
        ·
          refine lv_iload_n hx hb dX0_inColumn_38 rfl (lv_at hl 1 rfl) ?_
          refine lv_iconst (v := nI 1) hx hb dX0_inColumn_39 (by decide) ?_
          refine aj_ne (tgt := 65) hx hb (by decide) (by decide) dX0_inColumn_40 (by decide) (fun c_40 => ?_) (fun c_40 => ?_)
          ·
            refine lv_iload_n hx hb dX0_inColumn_65 rfl (lv_at hl 1 rfl) ?_
            refine lv_iconst (v := nI 2) hx hb dX0_inColumn_66 (by decide) ?_
            refine aj_ne (tgt := 92) hx hb (by decide) (by decide) dX0_inColumn_67 (by decide) (fun c_67 => ?_) (fun c_67 => ?_)
            ·
              refine lv_iload_n hx hb dX0_inColumn_92 rfl (lv_at hl 1 rfl) ?_
              refine lv_iconst (v := nI 3) hx hb dX0_inColumn_93 (by decide) ?_
              refine aj_ne (tgt := 119) hx hb (by decide) (by decide) dX0_inColumn_94 (by decide) (fun c_94 => ?_) (fun c_94 => ?_)
              ·
                exfalso; omega
              ·
                refine lv_aload_n hx hb dX0_inColumn_97 rfl (lv_at hl 0 rfl) ?_
                refine lv_iconst (v := nI 2) hx hb dX0_inColumn_98 (by decide) ?_
                refine lv_iload hx hb dX0_inColumn_99 (lv_at hl 4 rfl) ?_
                refine lv_iload_n hx hb dX0_inColumn_101 rfl (lv_at hl 2 rfl) ?_
                refine aj_callR (As := [.int (nI 2), .int (nI x), .int (nI v)]) (rest := []) F (aj_there l hG (by decide) (by omega) (by omega)) aj_gX0_X0_there aj_hX0_there (aj_rmR (by decide) (by decide)) rfl rfl hK hP (va_recv (q0 := 0) hK hP (ci := 0) rfl rfl) rfl hl.1 rfl (Nat.le_of_ble_eq_true rfl) ⟨Nat.zero_le _, Nat.zero_le _⟩ dX0_inColumn_102 ?_
                refine aj_ifeqB (tgt := 119) hx hb dX0_inColumn_105 (by decide) (fun c_105 => ?_) (fun c_105 => ?_)
                ·
                  refine lv_iload_n hx hb dX0_inColumn_119 rfl (lv_at hl 1 rfl) ?_
                  refine lv_iconst (v := nI 4) hx hb dX0_inColumn_120 (by decide) ?_
                  refine aj_ne (tgt := 146) hx hb (by decide) (by decide) dX0_inColumn_121 (by decide) (fun c_121 => ?_) (fun c_121 => ?_)
                  ·
                    refine lv_iinc (v := nI (x + 1)) (lv' := [(4, .int (nI (x + 1))), (0, .ref (ad 0)), (1, .int (nI 3)), (2, .int (nI v)), (3, .int (nI (aj_sm (aj_ic G 3 v) x)))]) hx hb dX0_inColumn_146 hl (k := 4) rfl (nI_add x 1) (by decide) rfl (fun ls hl => ?_)
                    refine lv_goto (tgt := 5) hx hb dX0_inColumn_149 (by decide) ?_
                    exact ih_5 (x + 1) (nI (aj_sm (aj_ic G 3 v) x)) (by simp [aj_sm, aj_ic, *]) (by omega) (by omega) _ (lv_sub hl [1, 2, 3, 4, 0] rfl)
                  ·
                    exfalso; omega
                ·
                  refine lv_iload_n hx hb dX0_inColumn_108 rfl (lv_at hl 3 rfl) ?_
                  refine lv_aload_n hx hb dX0_inColumn_109 rfl (lv_at hl 0 rfl) ?_
                  refine lv_iconst (v := nI 2) hx hb dX0_inColumn_110 (by decide) ?_
                  refine lv_iload hx hb dX0_inColumn_111 (lv_at hl 4 rfl) ?_
                  refine lv_iload_n hx hb dX0_inColumn_113 rfl (lv_at hl 2 rfl) ?_
                  refine aj_callR (As := [.int (nI 2), .int (nI x), .int (nI v)]) (rest := [.int (nI (aj_sm (aj_ic G 3 v) x))]) F (aj_share l hC (by decide) (by omega) (by omega)) aj_gX0_X0_share aj_hX0_share (aj_rmR (by decide) (by decide)) rfl rfl hK hP (va_recv (q0 := 0) hK hP (ci := 0) rfl rfl) rfl hl.1 rfl (Nat.le_of_ble_eq_true rfl) ⟨Nat.zero_le _, Nat.zero_le _⟩ dX0_inColumn_114 ?_
                  refine aj_iadd hx hb dX0_inColumn_117 ?_
                  refine lv_istore_n (lv' := [(3, .int (nI ((aj_sm (aj_ic G 3 v) x) + (aj_sh G 2 x v)))), (0, .ref (ad 0)), (1, .int (nI 3)), (2, .int (nI v)), (4, .int (nI x))]) hx hb dX0_inColumn_118 rfl hl (by decide) rfl (fun ls hl => ?_)
                  refine lv_iload_n hx hb dX0_inColumn_119 rfl (lv_at hl 2 rfl) ?_
                  refine lv_iconst (v := nI 4) hx hb dX0_inColumn_120 (by decide) ?_
                  refine aj_ne (tgt := 146) hx hb (by decide) (by decide) dX0_inColumn_121 (by decide) (fun c_121 => ?_) (fun c_121 => ?_)
                  ·
                    refine lv_iinc (v := nI (x + 1)) (lv' := [(4, .int (nI (x + 1))), (3, .int (nI ((aj_sm (aj_ic G 3 v) x) + (aj_sh G 2 x v)))), (0, .ref (ad 0)), (1, .int (nI 3)), (2, .int (nI v))]) hx hb dX0_inColumn_146 hl (k := 4) rfl (nI_add x 1) (by decide) rfl (fun ls hl => ?_)
                    refine lv_goto (tgt := 5) hx hb dX0_inColumn_149 (by decide) ?_
                    exact ih_5 (x + 1) (nI ((aj_sm (aj_ic G 3 v) x) + (aj_sh G 2 x v))) (by simp [aj_sm, aj_ic, *]) (by omega) (by omega) _ (lv_sub hl [2, 3, 4, 1, 0] rfl)
                  ·
                    exfalso; omega
            ·
              exfalso; omega
          ·
            exfalso; omega
        ·
          exfalso; omega
  exact L_5 9 0 (nI 0) (by simp [aj_sm, aj_ic, *]) (by omega) (by omega) _ (lv_sub hl [2, 3, 4, 1, 0] rfl)

set_option maxHeartbeats 4000000 in
set_option maxRecDepth 100000 in
theorem aj_inColumn4 (l : Launch) {D : va_G} {ad : Nat → Nat} {d : ClassId} {N S : Nat → Int32} {pd : Int32} {dR dT dQ uQ uR : Nat → Int32} {re : Int32} {G : aj_T} (hG : aj_Rel N G) (hC : aj_Ca G dR dT dQ uQ uR) {v : Nat} (h1 : v < 8) : aj_MR l yX0_inColumn cX0_inColumn 5 .int 2 D [(d, .int)] [.ref (ad 0), .int (nI 4), .int (nI v)] (aj_cP D ad d N S pd dR dT dQ uQ uR re) (nI (aj_col G 4 v)) := by
  refine aj_ro RX0 (by decide) rfl (Nat.le_of_ble_eq_true rfl) (fun v h => aj_nI rfl v) ?_
  intro p e s m args below meth c ls Q F hK hP hl hret
  obtain ⟨hx, hb, hml, hown, hts⟩ := id F
  have hP : va_P D aj_cl (aj_cW ad d N S pd dR dT dQ uQ uR re) s.heap := hP
  have hl : lv_has ls 5 [(0, .ref (ad 0)), (1, .int (nI 4)), (2, .int (nI v))] := hl
  refine lv_iconst (v := nI 0) hx hb dX0_inColumn_0 (by decide) ?_
  refine lv_istore_n (lv' := [(3, .int (nI 0)), (0, .ref (ad 0)), (1, .int (nI 4)), (2, .int (nI v))]) hx hb dX0_inColumn_1 rfl hl (by decide) rfl (fun ls hl => ?_)
  refine lv_iconst (v := nI 0) hx hb dX0_inColumn_2 (by decide) ?_
  refine lv_istore (lv' := [(4, .int (nI 0)), (3, .int (nI 0)), (0, .ref (ad 0)), (1, .int (nI 4)), (2, .int (nI v))]) hx hb dX0_inColumn_3 hl (by decide) rfl (fun ls hl => ?_)
  have L_5 : ∀ (n_5 : Nat), ∀ (x : Nat) (y : Int32), y = nI (aj_sm (aj_ic G 4 v) x) → x ≤ 8 → 9 ≤ x + n_5 → ∀ (ls : Array Slot), lv_has ls 5 [(0, .ref (ad 0)), (1, .int (nI 4)), (2, .int (nI v)), (3, .int y), (4, .int (nI x))] → W p l e (aj_rm 2) s m args below meth c s.heap [] 0 0 Q (F0 m 5 ls []) := by
    intro n_5
    induction n_5 with
    | zero =>
      intro x y e_y hv hfu ls hl
      exfalso; omega
    | succ n_5 ih_5 =>
      intro x y e_y hv hfu ls hl
      subst e_y
      refine lv_iload hx hb dX0_inColumn_5 (lv_at hl 4 rfl) ?_
      refine lv_bipush (v := nI 8) hx hb dX0_inColumn_7 (by decide) ?_
      refine aj_ge (tgt := 152) hx hb (by omega) (by decide) dX0_inColumn_9 (by decide) (fun c_9 => ?_) (fun c_9 => ?_)
      ·
        refine lv_iload_n hx hb dX0_inColumn_152 rfl (lv_at hl 3 rfl) ?_
        exact hret (nI (aj_sm (aj_ic G 4 v) x)) _ _ dX0_inColumn_153 ((by rw [show x = 8 by omega]; rfl))
      ·
        refine lv_iload_n hx hb dX0_inColumn_12 rfl (lv_at hl 1 rfl) ?_
        refine aj_ifne (tgt := 38) hx hb (by omega) dX0_inColumn_13 (by decide) (fun c_13 => ?_) (fun c_13 => ?_)
        ·
          refine lv_iload_n hx hb dX0_inColumn_38 rfl (lv_at hl 1 rfl) ?_
          refine lv_iconst (v := nI 1) hx hb dX0_inColumn_39 (by decide) ?_
          refine aj_ne (tgt := 65) hx hb (by decide) (by decide) dX0_inColumn_40 (by decide) (fun c_40 => ?_) (fun c_40 => ?_)
          ·
            refine lv_iload_n hx hb dX0_inColumn_65 rfl (lv_at hl 1 rfl) ?_
            refine lv_iconst (v := nI 2) hx hb dX0_inColumn_66 (by decide) ?_
            refine aj_ne (tgt := 92) hx hb (by decide) (by decide) dX0_inColumn_67 (by decide) (fun c_67 => ?_) (fun c_67 => ?_)
            ·
              refine lv_iload_n hx hb dX0_inColumn_92 rfl (lv_at hl 1 rfl) ?_
              refine lv_iconst (v := nI 3) hx hb dX0_inColumn_93 (by decide) ?_
              refine aj_ne (tgt := 119) hx hb (by decide) (by decide) dX0_inColumn_94 (by decide) (fun c_94 => ?_) (fun c_94 => ?_)
              ·
                refine lv_iload_n hx hb dX0_inColumn_119 rfl (lv_at hl 1 rfl) ?_
                refine lv_iconst (v := nI 4) hx hb dX0_inColumn_120 (by decide) ?_
                refine aj_ne (tgt := 146) hx hb (by decide) (by decide) dX0_inColumn_121 (by decide) (fun c_121 => ?_) (fun c_121 => ?_)
                ·
                  exfalso; omega
                ·
                  refine lv_aload_n hx hb dX0_inColumn_124 rfl (lv_at hl 0 rfl) ?_
                  refine lv_iconst (v := nI 3) hx hb dX0_inColumn_125 (by decide) ?_
                  refine lv_iload hx hb dX0_inColumn_126 (lv_at hl 4 rfl) ?_
                  refine lv_iload_n hx hb dX0_inColumn_128 rfl (lv_at hl 2 rfl) ?_
                  refine aj_callR (As := [.int (nI 3), .int (nI x), .int (nI v)]) (rest := []) F (aj_there l hG (by decide) (by omega) (by omega)) aj_gX0_X0_there aj_hX0_there (aj_rmR (by decide) (by decide)) rfl rfl hK hP (va_recv (q0 := 0) hK hP (ci := 0) rfl rfl) rfl hl.1 rfl (Nat.le_of_ble_eq_true rfl) ⟨Nat.zero_le _, Nat.zero_le _⟩ dX0_inColumn_129 ?_
                  refine aj_ifeqB (tgt := 146) hx hb dX0_inColumn_132 (by decide) (fun c_132 => ?_) (fun c_132 => ?_)
                  ·
                    refine lv_iinc (v := nI (x + 1)) (lv' := [(4, .int (nI (x + 1))), (0, .ref (ad 0)), (1, .int (nI 4)), (2, .int (nI v)), (3, .int (nI (aj_sm (aj_ic G 4 v) x)))]) hx hb dX0_inColumn_146 hl (k := 4) rfl (nI_add x 1) (by decide) rfl (fun ls hl => ?_)
                    refine lv_goto (tgt := 5) hx hb dX0_inColumn_149 (by decide) ?_
                    exact ih_5 (x + 1) (nI (aj_sm (aj_ic G 4 v) x)) (by simp [aj_sm, aj_ic, *]) (by omega) (by omega) _ (lv_sub hl [1, 2, 3, 4, 0] rfl)
                  ·
                    refine lv_iload_n hx hb dX0_inColumn_135 rfl (lv_at hl 3 rfl) ?_
                    refine lv_aload_n hx hb dX0_inColumn_136 rfl (lv_at hl 0 rfl) ?_
                    refine lv_iconst (v := nI 3) hx hb dX0_inColumn_137 (by decide) ?_
                    refine lv_iload hx hb dX0_inColumn_138 (lv_at hl 4 rfl) ?_
                    refine lv_iload_n hx hb dX0_inColumn_140 rfl (lv_at hl 2 rfl) ?_
                    refine aj_callR (As := [.int (nI 3), .int (nI x), .int (nI v)]) (rest := [.int (nI (aj_sm (aj_ic G 4 v) x))]) F (aj_share l hC (by decide) (by omega) (by omega)) aj_gX0_X0_share aj_hX0_share (aj_rmR (by decide) (by decide)) rfl rfl hK hP (va_recv (q0 := 0) hK hP (ci := 0) rfl rfl) rfl hl.1 rfl (Nat.le_of_ble_eq_true rfl) ⟨Nat.zero_le _, Nat.zero_le _⟩ dX0_inColumn_141 ?_
                    refine aj_iadd hx hb dX0_inColumn_144 ?_
                    refine lv_istore_n (lv' := [(3, .int (nI ((aj_sm (aj_ic G 4 v) x) + (aj_sh G 3 x v)))), (0, .ref (ad 0)), (1, .int (nI 4)), (2, .int (nI v)), (4, .int (nI x))]) hx hb dX0_inColumn_145 rfl hl (by decide) rfl (fun ls hl => ?_)
                    refine lv_iinc (v := nI (x + 1)) (lv' := [(4, .int (nI (x + 1))), (3, .int (nI ((aj_sm (aj_ic G 4 v) x) + (aj_sh G 3 x v)))), (0, .ref (ad 0)), (1, .int (nI 4)), (2, .int (nI v))]) hx hb dX0_inColumn_146 hl (k := 4) rfl (nI_add x 1) (by decide) rfl (fun ls hl => ?_)
                    refine lv_goto (tgt := 5) hx hb dX0_inColumn_149 (by decide) ?_
                    exact ih_5 (x + 1) (nI ((aj_sm (aj_ic G 4 v) x) + (aj_sh G 3 x v))) (by simp [aj_sm, aj_ic, *]) (by omega) (by omega) _ (lv_sub hl [2, 3, 4, 1, 0] rfl)
              ·
                exfalso; omega
            ·
              exfalso; omega
          ·
            exfalso; omega
        ·
          exfalso; omega
  exact L_5 9 0 (nI 0) (by simp [aj_sm, aj_ic, *]) (by omega) (by omega) _ (lv_sub hl [2, 3, 4, 1, 0] rfl)

theorem aj_inColumn (l : Launch) {D : va_G} {ad : Nat → Nat} {d : ClassId} {N S : Nat → Int32} {pd : Int32} {dR dT dQ uQ uR : Nat → Int32} {re : Int32} {G : aj_T} (hG : aj_Rel N G) (hC : aj_Ca G dR dT dQ uQ uR) {c v : Nat} (h0 : c < 5) (h1 : v < 8) : aj_MR l yX0_inColumn cX0_inColumn 5 .int 2 D [(d, .int)] [.ref (ad 0), .int (nI c), .int (nI v)] (aj_cP D ad d N S pd dR dT dQ uQ uR re) (nI (aj_col G c v)) := by
  match c, h0 with
  | 0, _ => exact aj_inColumn0 l hG hC h1
  | 1, _ => exact aj_inColumn1 l hG hC h1
  | 2, _ => exact aj_inColumn2 l hG hC h1
  | 3, _ => exact aj_inColumn3 l hG hC h1
  | 4, _ => exact aj_inColumn4 l hG hC h1

set_option maxHeartbeats 4000000 in
set_option maxRecDepth 100000 in
theorem aj_endsOf (l : Launch) {D : va_G} {ad : Nat → Nat} {d : ClassId} {N S : Nat → Int32} {pd : Int32} {dR dT dQ uQ uR : Nat → Int32} {re : Int32} {G : aj_T} (hG : aj_Rel N G) (hC : aj_Ca G dR dT dQ uQ uR) {v : Nat} (h1 : v < 8) : aj_MR l yX0_endsOf cX0_endsOf 5 .int 1 D [(d, .int)] [.ref (ad 0), .int (nI v)] (aj_cP D ad d N S pd dR dT dQ uQ uR re) (aj_fo G N v 8) := by
  refine aj_ro RX0 (by decide) rfl (Nat.le_of_ble_eq_true rfl) (fun v h => aj_nI rfl v) ?_
  intro p e s m args below meth c ls Q F hK hP hl hret
  obtain ⟨hx, hb, hml, hown, hts⟩ := id F
  have hP : va_P D aj_cl (aj_cW ad d N S pd dR dT dQ uQ uR re) s.heap := hP
  have hl : lv_has ls 5 [(0, .ref (ad 0)), (1, .int (nI v))] := hl
  refine lv_iconst (v := nI 0) hx hb dX0_endsOf_0 (by decide) ?_
  refine lv_istore_n (lv' := [(2, .int (nI 0)), (0, .ref (ad 0)), (1, .int (nI v))]) hx hb dX0_endsOf_1 rfl hl (by decide) rfl (fun ls hl => ?_)
  refine lv_iconst (v := nI 0) hx hb dX0_endsOf_2 (by decide) ?_
  refine lv_istore_n (lv' := [(3, .int (nI 0)), (2, .int (nI 0)), (0, .ref (ad 0)), (1, .int (nI v))]) hx hb dX0_endsOf_3 rfl hl (by decide) rfl (fun ls hl => ?_)
  have L_4 : ∀ (n_4 : Nat), ∀ (q : Nat) (y : Int32), y = aj_fo G N v q → q ≤ 8 → 9 ≤ q + n_4 → ∀ (ls : Array Slot), lv_has ls 5 [(0, .ref (ad 0)), (1, .int (nI v)), (2, .int y), (3, .int (nI q))] → W p l e (aj_rm 1) s m args below meth c s.heap [] 0 0 Q (F0 m 4 ls []) := by
    intro n_4
    induction n_4 with
    | zero =>
      intro q y e_y hq hfu ls hl
      exfalso; omega
    | succ n_4 ih_4 =>
      intro q y e_y hq hfu ls hl
      subst e_y
      refine lv_iload_n hx hb dX0_endsOf_4 rfl (lv_at hl 3 rfl) ?_
      refine lv_bipush (v := nI 8) hx hb dX0_endsOf_5 (by decide) ?_
      refine aj_ge (tgt := 75) hx hb (by omega) (by decide) dX0_endsOf_7 (by decide) (fun c_7 => ?_) (fun c_7 => ?_)
      ·
        refine lv_iload_n hx hb dX0_endsOf_75 rfl (lv_at hl 2 rfl) ?_
        exact hret (aj_fo G N v q) _ _ dX0_endsOf_76 ((by rw [show q = 8 by omega]))
      ·
        refine lv_iconst (v := nI 0) hx hb dX0_endsOf_10 (by decide) ?_
        refine lv_istore (lv' := [(4, .int (nI 0)), (0, .ref (ad 0)), (1, .int (nI v)), (2, .int (aj_fo G N v q)), (3, .int (nI q))]) hx hb dX0_endsOf_11 hl (by decide) rfl (fun ls hl => ?_)
        have L_13 : ∀ (n_13 : Nat), ∀ (r : Nat) (y : Int32), y = aj_fi (aj_cnd G v q) N (aj_fo G N v q) r → r ≤ 8 → 9 ≤ r + n_13 → ∀ (ls : Array Slot), lv_has ls 5 [(0, .ref (ad 0)), (1, .int (nI v)), (2, .int y), (3, .int (nI q)), (4, .int (nI r))] → W p l e (aj_rm 1) s m args below meth c s.heap [] 0 0 Q (F0 m 13 ls []) := by
          intro n_13
          induction n_13 with
          | zero =>
            intro r y e_y hr hfu ls hl
            exfalso; omega
          | succ n_13 ih_13 =>
            intro r y e_y hr hfu ls hl
            subst e_y
            refine lv_iload hx hb dX0_endsOf_13 (lv_at hl 4 rfl) ?_
            refine lv_bipush (v := nI 8) hx hb dX0_endsOf_15 (by decide) ?_
            refine aj_ge (tgt := 69) hx hb (by omega) (by decide) dX0_endsOf_17 (by decide) (fun c_17 => ?_) (fun c_17 => ?_)
            ·
              refine lv_iinc (v := nI (q + 1)) (lv' := [(3, .int (nI (q + 1))), (0, .ref (ad 0)), (1, .int (nI v)), (2, .int (aj_fi (aj_cnd G v q) N (aj_fo G N v q) r)), (4, .int (nI r))]) hx hb dX0_endsOf_69 hl (k := 3) rfl (nI_add q 1) (by decide) rfl (fun ls hl => ?_)
              refine lv_goto (tgt := 4) hx hb dX0_endsOf_72 (by decide) ?_
              exact ih_4 (q + 1) (aj_fi (aj_cnd G v q) N (aj_fo G N v q) r) (by obtain rfl : r = 8 := (by omega); rfl) (by omega) (by omega) _ (lv_sub hl [1, 2, 3, 0] rfl)
            ·
              refine lv_aload_n hx hb dX0_endsOf_20 rfl (lv_at hl 0 rfl) ?_
              refine lv_iconst (v := nI 0) hx hb dX0_endsOf_21 (by decide) ?_
              refine lv_iload_n hx hb dX0_endsOf_22 rfl (lv_at hl 1 rfl) ?_
              refine lv_iload_n hx hb dX0_endsOf_23 rfl (lv_at hl 3 rfl) ?_
              refine aj_callR (As := [.int (nI 0), .int (nI v), .int (nI q)]) (rest := []) F (aj_there l hG (by decide) h1 (by omega)) aj_gX0_X0_there aj_hX0_there (aj_rmR (by decide) (by decide)) rfl rfl hK hP (va_recv (q0 := 0) hK hP (ci := 0) rfl rfl) rfl hl.1 rfl (Nat.le_of_ble_eq_true rfl) ⟨Nat.zero_le _, Nat.zero_le _⟩ dX0_endsOf_24 ?_
              refine aj_ifeqB (tgt := 63) hx hb dX0_endsOf_27 (by decide) (fun c_27 => ?_) (fun c_27 => ?_)
              ·
                refine lv_iinc (v := nI (r + 1)) (lv' := [(4, .int (nI (r + 1))), (0, .ref (ad 0)), (1, .int (nI v)), (2, .int (aj_fi (aj_cnd G v q) N (aj_fo G N v q) r)), (3, .int (nI q))]) hx hb dX0_endsOf_63 hl (k := 4) rfl (nI_add r 1) (by decide) rfl (fun ls hl => ?_)
                refine lv_goto (tgt := 13) hx hb dX0_endsOf_66 (by decide) ?_
                exact ih_13 (r + 1) (aj_fi (aj_cnd G v q) N (aj_fo G N v q) r) (by simp [aj_fi, aj_cnd, *]) (by omega) (by omega) _ (lv_sub hl [1, 2, 3, 4, 0] rfl)
              ·
                refine lv_aload_n hx hb dX0_endsOf_30 rfl (lv_at hl 0 rfl) ?_
                refine va_get (D := D) (ci := 0) (v := .ref (ad 4)) (C := RX0) (T := TX0) (N := 9) hx hb hts in_X0 hown hK hP 0 rfl rfl 4 (by decide) (hts _ q36) (fun _ h9 => h9) rfl dX0_endsOf_31 ?_
                refine lv_iload_n hx hb dX0_endsOf_34 rfl (lv_at hl 3 rfl) ?_
                refine aj_iald (y := nI (aj_cT G q)) hx hb hK hP 4 0 rfl rfl (by omega) (by decide) (hC.T (by omega)) dX0_endsOf_35 ?_
                refine aj_ifle (tgt := 63) hx hb (Nat.lt_of_le_of_lt (aj_cT_le G q) (by decide)) dX0_endsOf_36 (by decide) (fun c_36 => ?_) (fun c_36 => ?_)
                ·
                  refine lv_iinc (v := nI (r + 1)) (lv' := [(4, .int (nI (r + 1))), (0, .ref (ad 0)), (1, .int (nI v)), (2, .int (aj_fi (aj_cnd G v q) N (aj_fo G N v q) r)), (3, .int (nI q))]) hx hb dX0_endsOf_63 hl (k := 4) rfl (nI_add r 1) (by decide) rfl (fun ls hl => ?_)
                  refine lv_goto (tgt := 13) hx hb dX0_endsOf_66 (by decide) ?_
                  exact ih_13 (r + 1) (aj_fi (aj_cnd G v q) N (aj_fo G N v q) r) (by simp [aj_fi, aj_cnd, *]) (by omega) (by omega) _ (lv_sub hl [1, 2, 3, 4, 0] rfl)
                ·
                  refine lv_aload_n hx hb dX0_endsOf_39 rfl (lv_at hl 0 rfl) ?_
                  refine lv_iconst (v := nI 1) hx hb dX0_endsOf_40 (by decide) ?_
                  refine lv_iload_n hx hb dX0_endsOf_41 rfl (lv_at hl 3 rfl) ?_
                  refine lv_iload hx hb dX0_endsOf_42 (lv_at hl 4 rfl) ?_
                  refine aj_callR (As := [.int (nI 1), .int (nI q), .int (nI r)]) (rest := []) F (aj_there l hG (by decide) (by omega) (by omega)) aj_gX0_X0_there aj_hX0_there (aj_rmR (by decide) (by decide)) rfl rfl hK hP (va_recv (q0 := 0) hK hP (ci := 0) rfl rfl) rfl hl.1 rfl (Nat.le_of_ble_eq_true rfl) ⟨Nat.zero_le _, Nat.zero_le _⟩ dX0_endsOf_44 ?_
                  refine aj_ifeqB (tgt := 63) hx hb dX0_endsOf_47 (by decide) (fun c_47 => ?_) (fun c_47 => ?_)
                  ·
                    refine lv_iinc (v := nI (r + 1)) (lv' := [(4, .int (nI (r + 1))), (0, .ref (ad 0)), (1, .int (nI v)), (2, .int (aj_fi (aj_cnd G v q) N (aj_fo G N v q) r)), (3, .int (nI q))]) hx hb dX0_endsOf_63 hl (k := 4) rfl (nI_add r 1) (by decide) rfl (fun ls hl => ?_)
                    refine lv_goto (tgt := 13) hx hb dX0_endsOf_66 (by decide) ?_
                    exact ih_13 (r + 1) (aj_fi (aj_cnd G v q) N (aj_fo G N v q) r) (by simp [aj_fi, aj_cnd, *]) (by omega) (by omega) _ (lv_sub hl [1, 2, 3, 4, 0] rfl)
                  ·
                    refine lv_iload_n hx hb dX0_endsOf_50 rfl (lv_at hl 2 rfl) ?_
                    refine lv_aload_n hx hb dX0_endsOf_51 rfl (lv_at hl 0 rfl) ?_
                    refine va_get (D := D) (ci := 0) (v := .ref (ad 1)) (C := RX0) (T := TX0) (N := 9) hx hb hts in_X0 hown hK hP 0 rfl rfl 0 (by decide) (hts _ q32) (fun _ h9 => h9) rfl dX0_endsOf_52 ?_
                    refine lv_bipush (v := nI 16) hx hb dX0_endsOf_55 (by decide) ?_
                    refine lv_iload hx hb dX0_endsOf_57 (lv_at hl 4 rfl) ?_
                    refine aj_iadd hx hb dX0_endsOf_59 ?_
                    refine aj_iald (y := N (16 + r)) hx hb hK hP 1 0 rfl rfl (by omega) (by decide) rfl dX0_endsOf_60 ?_
                    refine lv_ior hx hb dX0_endsOf_61 ?_
                    refine lv_istore_n (lv' := [(2, .int ((aj_fi (aj_cnd G v q) N (aj_fo G N v q) r) ||| (N (16 + r)))), (0, .ref (ad 0)), (1, .int (nI v)), (3, .int (nI q)), (4, .int (nI r))]) hx hb dX0_endsOf_62 rfl hl (by decide) rfl (fun ls hl => ?_)
                    refine lv_iinc (v := nI (r + 1)) (lv' := [(4, .int (nI (r + 1))), (2, .int ((aj_fi (aj_cnd G v q) N (aj_fo G N v q) r) ||| (N (16 + r)))), (0, .ref (ad 0)), (1, .int (nI v)), (3, .int (nI q))]) hx hb dX0_endsOf_63 hl (k := 4) rfl (nI_add r 1) (by decide) rfl (fun ls hl => ?_)
                    refine lv_goto (tgt := 13) hx hb dX0_endsOf_66 (by decide) ?_
                    exact ih_13 (r + 1) ((aj_fi (aj_cnd G v q) N (aj_fo G N v q) r) ||| (N (16 + r))) (by simp [aj_fi, aj_cnd, *]) (by omega) (by omega) _ (lv_sub hl [2, 3, 1, 4, 0] rfl)
        exact L_13 9 0 (aj_fo G N v q) rfl (by omega) (by omega) _ (lv_sub hl [1, 2, 3, 4, 0] rfl)
  exact L_4 9 0 (nI 0) rfl (by omega) (by omega) _ (lv_sub hl [2, 3, 1, 0] rfl)

set_option maxHeartbeats 4000000 in
set_option maxRecDepth 100000 in
theorem aj_C_rows_ok (l : Launch) {D : va_G} {ad : Nat → Nat} {d : ClassId} {G : aj_T} {S : Nat → Int32} {i : Nat} (h1 : i < 4) : aj_MR l yX0_rows cX0_rows 2 .int 0 D [(d, .int)] [.ref (ad 0), .int (nI i)] (aj_CC D ad d G S) (S i) := by
  refine aj_ro RX0 (by decide) rfl (Nat.le_of_ble_eq_true rfl) (fun v h => aj_nI rfl v) ?_
  intro p e s m args below meth c ls Q F hK hP hl hret
  obtain ⟨hx, hb, hml, hown, hts⟩ := id F
  have hl : lv_has ls 2 [(0, .ref (ad 0)), (1, .int (nI i))] := hl
  obtain ⟨N, pb, dR, dT, dQ, uQ, uR, re, hG, hC, hP⟩ := hP
  refine lv_iload_n hx hb dX0_rows_0 rfl (lv_at hl 1 rfl) ?_
  refine aj_iflt (tgt := 9) hx hb (by omega) dX0_rows_1 (by decide) ?_
  refine lv_iload_n hx hb dX0_rows_4 rfl (lv_at hl 1 rfl) ?_
  refine lv_iconst (v := nI 4) hx hb dX0_rows_5 (by decide) ?_
  refine aj_lt (tgt := 13) hx hb (by omega) (by decide) dX0_rows_6 (by decide) (fun c_6 => ?_) (fun c_6 => ?_)
  ·
    refine lv_aload_n hx hb dX0_rows_13 rfl (lv_at hl 0 rfl) ?_
    refine va_get (D := D) (ci := 0) (v := .ref (ad 2)) (C := RX0) (T := TX0) (N := 9) hx hb hts in_X0 hown hK hP 0 rfl rfl 1 (by decide) (hts _ q33) (fun _ h9 => h9) rfl dX0_rows_14 ?_
    refine lv_iload_n hx hb dX0_rows_17 rfl (lv_at hl 1 rfl) ?_
    refine aj_iald (y := S i) hx hb hK hP 2 0 rfl rfl (by omega) (by decide) rfl dX0_rows_18 ?_
    exact hret (S i) _ _ dX0_rows_19 (rfl)
  ·
    exfalso; omega

set_option maxHeartbeats 4000000 in
set_option maxRecDepth 100000 in
theorem aj_C_rows_bad (l : Launch) {D : va_G} {ad : Nat → Nat} {d : ClassId} {G : aj_T} {S : Nat → Int32} {x : Int32} (h1 : aj_out 4 x = true) : aj_MR l yX0_rows cX0_rows 2 .int 0 D [(d, .int)] [.ref (ad 0), .int x] (aj_CC D ad d G S) ((-1)) := by
  refine aj_ro RX0 (by decide) rfl (Nat.le_of_ble_eq_true rfl) (fun v h => aj_nI rfl v) ?_
  intro p e s m args below meth c ls Q F hK hP hl hret
  obtain ⟨hx, hb, hml, hown, hts⟩ := id F
  have hl : lv_has ls 2 [(0, .ref (ad 0)), (1, .int x)] := hl
  obtain ⟨N, pb, dR, dT, dQ, uQ, uR, re, hG, hC, hP⟩ := hP
  refine lv_iload_n hx hb dX0_rows_0 rfl (lv_at hl 1 rfl) ?_
  refine lv_if_lt (tgt := 9) hx hb dX0_rows_1 (by decide) (fun c_1 => ?_) (fun c_1 => ?_)
  ·
    refine lv_iconst (v := (-1)) hx hb dX0_rows_9 (by decide) ?_
    refine lv_goto (tgt := 19) hx hb dX0_rows_10 (by decide) ?_
    exact hret ((-1)) _ _ dX0_rows_19 (rfl)
  ·
    refine lv_iload_n hx hb dX0_rows_4 rfl (lv_at hl 1 rfl) ?_
    refine lv_iconst (v := nI 4) hx hb dX0_rows_5 (by decide) ?_
    refine lv_icmp_lt (tgt := 13) hx hb dX0_rows_6 (by decide) (fun c_6 => ?_) (fun c_6 => ?_)
    ·
      exact absurd c_6 (aj_out_no h1 c_1)
    ·
      refine lv_iconst (v := (-1)) hx hb dX0_rows_9 (by decide) ?_
      refine lv_goto (tgt := 19) hx hb dX0_rows_10 (by decide) ?_
      exact hret ((-1)) _ _ dX0_rows_19 (rfl)

set_option maxHeartbeats 4000000 in
set_option maxRecDepth 100000 in
theorem aj_C_has_ok (l : Launch) {D : va_G} {ad : Nat → Nat} {d : ClassId} {G : aj_T} {S : Nat → Int32} {k : Nat} (h1 : k < 32768) : aj_MR l yX0_has cX0_has 7 .boolean 1 D [(d, .int)] [.ref (ad 0), .int (nI k)] (aj_CC D ad d G S) (nI (aj_hasC G k).toNat) := by
  refine aj_ro RX0 (by decide) rfl (Nat.le_of_ble_eq_true rfl) (fun v h => by rw [h]; exact aj_nZ _) ?_
  intro p e s m args below meth c ls Q F hK hP hl hret
  obtain ⟨hx, hb, hml, hown, hts⟩ := id F
  have hl : lv_has ls 7 [(0, .ref (ad 0)), (1, .int (nI k))] := hl
  obtain ⟨N, pb, dR, dT, dQ, uQ, uR, re, hG, hC, hP⟩ := hP
  refine lv_aload_n hx hb dX0_has_0 rfl (lv_at hl 0 rfl) ?_
  refine lv_iload_n hx hb dX0_has_1 rfl (lv_at hl 1 rfl) ?_
  refine aj_callR (As := [.int (nI k)]) (rest := []) F (aj_badCode l) aj_gX0_X0_badCode aj_hX0_badCode (aj_rmR (by decide) (by decide)) rfl rfl hK hP (va_recv (q0 := 0) hK hP (ci := 0) rfl rfl) rfl hl.1 rfl (Nat.le_of_ble_eq_true rfl) ⟨Nat.zero_le _, Nat.zero_le _⟩ dX0_has_2 ?_
  refine aj_ifeqB (tgt := 10) hx hb dX0_has_5 (by decide) (fun c_5 => ?_) (fun c_5 => ?_)
  ·
    refine lv_iload_n hx hb dX0_has_10 rfl (lv_at hl 1 rfl) ?_
    refine lv_bipush (v := nI 7) hx hb dX0_has_11 (by decide) ?_
    refine lv_iand hx hb dX0_has_13 ?_
    refine aj_top (y := nI (k % 8)) (aj_and7 (by omega)) ?_
    refine lv_istore_n (lv' := [(2, .int (nI (k % 8))), (0, .ref (ad 0)), (1, .int (nI k))]) hx hb dX0_has_14 rfl hl (by decide) rfl (fun ls hl => ?_)
    refine lv_iload_n hx hb dX0_has_15 rfl (lv_at hl 2 rfl) ?_
    refine lv_iconst (v := nI 3) hx hb dX0_has_16 (by decide) ?_
    refine lv_ishr hx hb dX0_has_17 ?_
    refine aj_top (y := nI (k / 8)) (aj_shr3 (by omega)) ?_
    refine lv_bipush (v := nI 7) hx hb dX0_has_18 (by decide) ?_
    refine lv_iand hx hb dX0_has_20 ?_
    refine aj_top (y := nI (k / 8 % 8)) (aj_and7 (by omega)) ?_
    refine lv_istore_n (lv' := [(3, .int (nI (k / 8 % 8))), (2, .int (nI (k % 8))), (0, .ref (ad 0)), (1, .int (nI k))]) hx hb dX0_has_21 rfl hl (by decide) rfl (fun ls hl => ?_)
    refine lv_iload_n hx hb dX0_has_22 rfl (lv_at hl 3 rfl) ?_
    refine lv_bipush (v := nI 6) hx hb dX0_has_23 (by decide) ?_
    refine lv_ishr hx hb dX0_has_25 ?_
    refine aj_top (y := nI (k / 64)) (aj_shr6 (by omega)) ?_
    refine lv_bipush (v := nI 7) hx hb dX0_has_26 (by decide) ?_
    refine lv_iand hx hb dX0_has_28 ?_
    refine aj_top (y := nI (k / 64 % 8)) (aj_and7 (by omega)) ?_
    refine lv_istore (lv' := [(4, .int (nI (k / 64 % 8))), (3, .int (nI (k / 8 % 8))), (2, .int (nI (k % 8))), (0, .ref (ad 0)), (1, .int (nI k))]) hx hb dX0_has_29 hl (by decide) rfl (fun ls hl => ?_)
    refine lv_iload_n hx hb dX0_has_31 rfl (lv_at hl 4 rfl) ?_
    refine lv_bipush (v := nI 9) hx hb dX0_has_32 (by decide) ?_
    refine lv_ishr hx hb dX0_has_34 ?_
    refine aj_top (y := nI (k / 512)) (aj_shr9 (by omega)) ?_
    refine lv_bipush (v := nI 7) hx hb dX0_has_35 (by decide) ?_
    refine lv_iand hx hb dX0_has_37 ?_
    refine aj_top (y := nI (k / 512 % 8)) (aj_and7 (by omega)) ?_
    refine lv_istore (lv' := [(5, .int (nI (k / 512 % 8))), (4, .int (nI (k / 64 % 8))), (3, .int (nI (k / 8 % 8))), (2, .int (nI (k % 8))), (0, .ref (ad 0)), (1, .int (nI k))]) hx hb dX0_has_38 hl (by decide) rfl (fun ls hl => ?_)
    refine lv_iload_n hx hb dX0_has_40 rfl (lv_at hl 5 rfl) ?_
    refine lv_bipush (v := nI 12) hx hb dX0_has_41 (by decide) ?_
    refine lv_ishr hx hb dX0_has_43 ?_
    refine aj_top (y := nI (k / 4096)) (aj_shr12 (by omega)) ?_
    refine lv_istore (lv' := [(6, .int (nI (k / 4096))), (5, .int (nI (k / 512 % 8))), (4, .int (nI (k / 64 % 8))), (3, .int (nI (k / 8 % 8))), (2, .int (nI (k % 8))), (0, .ref (ad 0)), (1, .int (nI k))]) hx hb dX0_has_44 hl (by decide) rfl (fun ls hl => ?_)
    refine lv_aload_n hx hb dX0_has_46 rfl (lv_at hl 5 rfl) ?_
    refine lv_iconst (v := nI 0) hx hb dX0_has_47 (by decide) ?_
    refine lv_iload_n hx hb dX0_has_48 rfl (lv_at hl 4 rfl) ?_
    refine lv_iload_n hx hb dX0_has_49 rfl (lv_at hl 3 rfl) ?_
    refine aj_callR (As := [.int (nI 0), .int (nI (k % 8)), .int (nI (k / 8 % 8))]) (rest := []) F (aj_there l hG (by decide) (by omega) (by omega)) aj_gX0_X0_there aj_hX0_there (aj_rmR (by decide) (by decide)) rfl rfl hK hP (va_recv (q0 := 0) hK hP (ci := 0) rfl rfl) rfl hl.1 rfl (Nat.le_of_ble_eq_true rfl) ⟨Nat.zero_le _, Nat.zero_le _⟩ dX0_has_50 ?_
    refine aj_ifeqB (tgt := 94) hx hb dX0_has_53 (by decide) (fun c_53 => ?_) (fun c_53 => ?_)
    ·
      refine lv_iconst (v := nI 0) hx hb dX0_has_94 (by decide) ?_
      exact hret (nI 0) _ _ dX0_has_95 ((by simp [aj_hasC, *]))
    ·
      refine lv_aload_n hx hb dX0_has_56 rfl (lv_at hl 5 rfl) ?_
      refine lv_iconst (v := nI 1) hx hb dX0_has_57 (by decide) ?_
      refine lv_iload_n hx hb dX0_has_58 rfl (lv_at hl 3 rfl) ?_
      refine lv_iload hx hb dX0_has_59 (lv_at hl 2 rfl) ?_
      refine aj_callR (As := [.int (nI 1), .int (nI (k / 8 % 8)), .int (nI (k / 64 % 8))]) (rest := []) F (aj_there l hG (by decide) (by omega) (by omega)) aj_gX0_X0_there aj_hX0_there (aj_rmR (by decide) (by decide)) rfl rfl hK hP (va_recv (q0 := 0) hK hP (ci := 0) rfl rfl) rfl hl.1 rfl (Nat.le_of_ble_eq_true rfl) ⟨Nat.zero_le _, Nat.zero_le _⟩ dX0_has_61 ?_
      refine aj_ifeqB (tgt := 94) hx hb dX0_has_64 (by decide) (fun c_64 => ?_) (fun c_64 => ?_)
      ·
        refine lv_iconst (v := nI 0) hx hb dX0_has_94 (by decide) ?_
        exact hret (nI 0) _ _ dX0_has_95 ((by simp [aj_hasC, *]))
      ·
        refine lv_aload_n hx hb dX0_has_67 rfl (lv_at hl 5 rfl) ?_
        refine lv_iconst (v := nI 2) hx hb dX0_has_68 (by decide) ?_
        refine lv_iload hx hb dX0_has_69 (lv_at hl 2 rfl) ?_
        refine lv_iload hx hb dX0_has_71 (lv_at hl 1 rfl) ?_
        refine aj_callR (As := [.int (nI 2), .int (nI (k / 64 % 8)), .int (nI (k / 512 % 8))]) (rest := []) F (aj_there l hG (by decide) (by omega) (by omega)) aj_gX0_X0_there aj_hX0_there (aj_rmR (by decide) (by decide)) rfl rfl hK hP (va_recv (q0 := 0) hK hP (ci := 0) rfl rfl) rfl hl.1 rfl (Nat.le_of_ble_eq_true rfl) ⟨Nat.zero_le _, Nat.zero_le _⟩ dX0_has_73 ?_
        refine aj_ifeqB (tgt := 94) hx hb dX0_has_76 (by decide) (fun c_76 => ?_) (fun c_76 => ?_)
        ·
          refine lv_iconst (v := nI 0) hx hb dX0_has_94 (by decide) ?_
          exact hret (nI 0) _ _ dX0_has_95 ((by simp [aj_hasC, *]))
        ·
          refine lv_aload_n hx hb dX0_has_79 rfl (lv_at hl 5 rfl) ?_
          refine lv_iconst (v := nI 3) hx hb dX0_has_80 (by decide) ?_
          refine lv_iload_n hx hb dX0_has_81 rfl (lv_at hl 3 rfl) ?_
          refine lv_iload hx hb dX0_has_82 (lv_at hl 0 rfl) ?_
          refine aj_callR (As := [.int (nI 3), .int (nI (k / 8 % 8)), .int (nI (k / 4096))]) (rest := []) F (aj_there l hG (by decide) (by omega) (by omega)) aj_gX0_X0_there aj_hX0_there (aj_rmR (by decide) (by decide)) rfl rfl hK hP (va_recv (q0 := 0) hK hP (ci := 0) rfl rfl) rfl hl.1 rfl (Nat.le_of_ble_eq_true rfl) ⟨Nat.zero_le _, Nat.zero_le _⟩ dX0_has_84 ?_
          refine aj_ifeqB (tgt := 94) hx hb dX0_has_87 (by decide) (fun c_87 => ?_) (fun c_87 => ?_)
          ·
            refine lv_iconst (v := nI 0) hx hb dX0_has_94 (by decide) ?_
            exact hret (nI 0) _ _ dX0_has_95 ((by simp [aj_hasC, *]))
          ·
            refine lv_iconst (v := nI 1) hx hb dX0_has_90 (by decide) ?_
            refine lv_goto (tgt := 95) hx hb dX0_has_91 (by decide) ?_
            exact hret (nI 1) _ _ dX0_has_95 ((by simp [aj_hasC, *]))
  ·
    rw [aj_badC_ok h1] at c_5; cases c_5

set_option maxHeartbeats 4000000 in
set_option maxRecDepth 100000 in
theorem aj_C_has_bad (l : Launch) {D : va_G} {ad : Nat → Nat} {d : ClassId} {G : aj_T} {S : Nat → Int32} {x : Int32} (h1 : aj_badC x = true) : aj_MR l yX0_has cX0_has 7 .boolean 1 D [(d, .int)] [.ref (ad 0), .int x] (aj_CC D ad d G S) (nI 0) := by
  refine aj_ro RX0 (by decide) rfl (Nat.le_of_ble_eq_true rfl) (fun v h => by rw [h]; rfl) ?_
  intro p e s m args below meth c ls Q F hK hP hl hret
  obtain ⟨hx, hb, hml, hown, hts⟩ := id F
  have hl : lv_has ls 7 [(0, .ref (ad 0)), (1, .int x)] := hl
  obtain ⟨N, pb, dR, dT, dQ, uQ, uR, re, hG, hC, hP⟩ := hP
  refine lv_aload_n hx hb dX0_has_0 rfl (lv_at hl 0 rfl) ?_
  refine lv_iload_n hx hb dX0_has_1 rfl (lv_at hl 1 rfl) ?_
  refine aj_callR (As := [.int x]) (rest := []) F (aj_badCode l) aj_gX0_X0_badCode aj_hX0_badCode (aj_rmR (by decide) (by decide)) rfl rfl hK hP (va_recv (q0 := 0) hK hP (ci := 0) rfl rfl) rfl hl.1 rfl (Nat.le_of_ble_eq_true rfl) ⟨Nat.zero_le _, Nat.zero_le _⟩ dX0_has_2 ?_
  refine aj_ifeqB (tgt := 10) hx hb dX0_has_5 (by decide) (fun c_5 => ?_) (fun c_5 => ?_)
  ·
    rw [h1] at c_5; cases c_5
  ·
    refine lv_iconst (v := nI 0) hx hb dX0_has_8 (by decide) ?_
    exact hret (nI 0) _ _ dX0_has_9 (rfl)

end
end
section
section
/-- the numbers are passed -/
abbrev aj_PF (D : va_G) (ad : Nat → Nat) (d : ClassId) (N S : Nat → Int32) (G : aj_T) (re : Int32) (H : Heap) : Prop := ∃ dR' dT' dQ' uQ' uR' : Nat → Int32, aj_Ca G dR' dT' dQ' uQ' uR' ∧ aj_cP D ad d N S (nI 1) dR' dT' dQ' uQ' uR' re H
/-- an answer and a picture -/
abbrev aj_PV (val : Int32) (P : Heap → Prop) (v : Int32) (H : Heap) : Prop := v = val ∧ P H
set_option maxHeartbeats 4000000 in
set_option maxRecDepth 100000 in
theorem aj_pass (l : Launch) {D : va_G} {ad : Nat → Nat} {d : ClassId} {N S : Nat → Int32} {dR dT dQ uQ uR : Nat → Int32} {re : Int32} {G : aj_T} (hap : aj_Ap 8 ad) (hG : aj_Rel N G) {pb : Bool} (hC : pb = true → aj_Ca G dR dT dQ uQ uR) : aj_MV l yX0_pass cX0_pass 3 1 D [(d, .int)] [.ref (ad 0)] (aj_cP D ad d N S (nI pb.toNat) dR dT dQ uQ uR re) (aj_PF D ad d N S G re) (aj_In 8 ad) := by
  refine aj_rv (Post := aj_PF D ad d N S G re) (pre := (aj_cP D ad d N S (nI pb.toNat) dR dT dQ uQ uR re)) (aj_In 8 ad) RX0 (by decide) rfl (Nat.le_of_ble_eq_true rfl) ?_
  intro p e s m args below meth c ls Q F hK hP hl hret
  obtain ⟨hx, hb, hml, hown, hts⟩ := id F
  have hP : va_P D aj_cl (aj_cW ad d N S (nI pb.toNat) dR dT dQ uQ uR re) s.heap := hP
  have hS : va_S (aj_In 8 ad) s.heap s.heap [] := va_S.rf
  have hl : lv_has ls 3 [(0, .ref (ad 0))] := hl
  refine lv_aload_n hx hb dX0_pass_0 rfl (lv_at hl 0 rfl) ?_
  refine va_get (D := D) (ci := 0) (v := .int (nI pb.toNat)) (C := RX0) (T := TX0) (N := 9) hx hb hts in_X0 hown hK hP 0 rfl rfl 2 (by decide) (hts _ q34) (fun _ h9 => h9) rfl dX0_pass_1 ?_
  refine aj_ifeqB (tgt := 8) hx hb dX0_pass_4 (by decide) (fun c_4 => ?_) (fun c_4 => ?_)
  ·
    refine lv_iconst (v := nI 0) hx hb dX0_pass_8 (by decide) ?_
    refine lv_istore_n (lv' := [(1, .int (nI 0)), (0, .ref (ad 0))]) hx hb dX0_pass_9 rfl hl (by decide) rfl (fun ls hl => ?_)
    have L_10 : ∀ (n_10 : Nat), ∀ (v : Nat) (r1 : Nat → Int32) (t1 : Nat → Int32) (u1 : Nat → Int32) (w1 : Nat → Int32), v ≤ 8 → (∀ j, j < v → r1 j = nI (aj_cR G j) ∧ t1 j = nI (aj_cT G j) ∧ u1 j = nI 0 ∧ w1 j = nI 0) → 9 ≤ v + n_10 → ∀ (H : Heap) (locs : List Loc), va_P D aj_cl (aj_cW ad d N S (nI pb.toNat) r1 t1 dQ u1 w1 re) H → va_S (aj_In 8 ad) s.heap H locs → ∀ (ls : Array Slot), lv_has ls 3 [(0, .ref (ad 0)), (1, .int (nI v))] → W p l e (aj_rm 1) s m args below meth c H locs 0 0 Q (F0 m 10 ls []) := by
      intro n_10
      induction n_10 with
      | zero =>
        intro v r1 t1 u1 w1 hv hI hfu H locs hP hS ls hl
        exfalso; omega
      | succ n_10 ih_10 =>
        intro v r1 t1 u1 w1 hv hI hfu H locs hP hS ls hl
        refine lv_iload_n hx hb dX0_pass_10 rfl (lv_at hl 1 rfl) ?_
        refine lv_bipush (v := nI 8) hx hb dX0_pass_11 (by decide) ?_
        refine aj_ge (tgt := 74) hx hb (by omega) (by decide) dX0_pass_13 (by decide) (fun c_13 => ?_) (fun c_13 => ?_)
        ·
          refine lv_iconst (v := nI 0) hx hb dX0_pass_74 (by decide) ?_
          refine lv_istore_n (lv' := [(1, .int (nI 0)), (0, .ref (ad 0))]) hx hb dX0_pass_75 rfl hl (by decide) rfl (fun ls hl => ?_)
          have L_76 : ∀ (n_76 : Nat), ∀ (q : Nat) (x1 : Nat → Int32) (u2 : Nat → Int32), q ≤ 8 → (∀ j, j < q → x1 j = nI (aj_cQ G j) ∧ u2 j = nI (aj_uQ G j)) → (∀ j, q ≤ j → j < 8 → u2 j = nI 0) → 9 ≤ q + n_76 → ∀ (H : Heap) (locs : List Loc), va_P D aj_cl (aj_cW ad d N S (nI pb.toNat) r1 t1 x1 u2 w1 re) H → va_S (aj_In 8 ad) s.heap H locs → ∀ (ls : Array Slot), lv_has ls 3 [(0, .ref (ad 0)), (1, .int (nI q))] → W p l e (aj_rm 1) s m args below meth c H locs 0 0 Q (F0 m 76 ls []) := by
            intro n_76
            induction n_76 with
            | zero =>
              intro q x1 u2 hq hA hB hfu H locs hP hS ls hl
              exfalso; omega
            | succ n_76 ih_76 =>
              intro q x1 u2 hq hA hB hfu H locs hP hS ls hl
              refine lv_iload_n hx hb dX0_pass_76 rfl (lv_at hl 1 rfl) ?_
              refine lv_bipush (v := nI 8) hx hb dX0_pass_77 (by decide) ?_
              refine aj_ge (tgt := 162) hx hb (by omega) (by decide) dX0_pass_79 (by decide) (fun c_79 => ?_) (fun c_79 => ?_)
              ·
                refine lv_iconst (v := nI 0) hx hb dX0_pass_162 (by decide) ?_
                refine lv_istore_n (lv' := [(1, .int (nI 0)), (0, .ref (ad 0))]) hx hb dX0_pass_163 rfl hl (by decide) rfl (fun ls hl => ?_)
                have L_164 : ∀ (n_164 : Nat), ∀ (q : Nat) (w2 : Nat → Int32), q ≤ 8 → (∀ j, j < 8 → w2 j = nI (aj_sm (fun z => (G 1 z j).toNat * (aj_uQ G z * aj_cT G z)) q)) → 9 ≤ q + n_164 → ∀ (H : Heap) (locs : List Loc), va_P D aj_cl (aj_cW ad d N S (nI pb.toNat) r1 t1 x1 u2 w2 re) H → va_S (aj_In 8 ad) s.heap H locs → ∀ (ls : Array Slot), lv_has ls 3 [(0, .ref (ad 0)), (1, .int (nI q))] → W p l e (aj_rm 1) s m args below meth c H locs 0 0 Q (F0 m 164 ls []) := by
                  intro n_164
                  induction n_164 with
                  | zero =>
                    intro q w2 hq hW hfu H locs hP hS ls hl
                    exfalso; omega
                  | succ n_164 ih_164 =>
                    intro q w2 hq hW hfu H locs hP hS ls hl
                    refine lv_iload_n hx hb dX0_pass_164 rfl (lv_at hl 1 rfl) ?_
                    refine lv_bipush (v := nI 8) hx hb dX0_pass_165 (by decide) ?_
                    refine aj_ge (tgt := 226) hx hb (by omega) (by decide) dX0_pass_167 (by decide) (fun c_167 => ?_) (fun c_167 => ?_)
                    ·
                      refine lv_aload_n hx hb dX0_pass_226 rfl (lv_at hl 0 rfl) ?_
                      refine lv_iconst (v := nI 1) hx hb dX0_pass_227 (by decide) ?_
                      refine va_put (D := D) (ci := 0) (v := .int (nI 1)) (ty := .boolean) (C := RX0) (T := TX0) (N := 9) hx hb hts in_X0 tyX0 tyX0_ok nmX0 hown hK hP (aj_cD hap) hS 0 rfl rfl 2 (by decide) (hts _ q34) (fun _ h9 => h9) rfl (by decide +kernel) rfl rfl (Nat.le_of_ble_eq_true rfl) dX0_pass_228 (fun H locs hP _ hS => ?_)
                      have hP : va_P D aj_cl (aj_cW ad d N S (nI 1) r1 t1 x1 u2 w2 re) H := hP
                      exact hret _ _ _ _ dX0_pass_231 hS (⟨r1, t1, x1, u2, w2, (by intro j hj; obtain rfl : q = 8 := (by omega); exact ⟨(hI j (by omega)).1, (hI j (by omega)).2.1, (hA j (by omega)).1, (hA j (by omega)).2, hW j hj⟩), hP⟩)
                    ·
                      refine lv_iconst (v := nI 0) hx hb dX0_pass_170 (by decide) ?_
                      refine lv_istore_n (lv' := [(2, .int (nI 0)), (0, .ref (ad 0)), (1, .int (nI q))]) hx hb dX0_pass_171 rfl hl (by decide) rfl (fun ls hl => ?_)
                      have L_172 : ∀ (n_172 : Nat), ∀ (r : Nat) (w3 : Nat → Int32), r ≤ 8 → (∀ j, j < 8 → w3 j = nI (aj_sm (fun z => (G 1 z j).toNat * (aj_uQ G z * aj_cT G z)) (if j < r then q + 1 else q))) → 9 ≤ r + n_172 → ∀ (H : Heap) (locs : List Loc), va_P D aj_cl (aj_cW ad d N S (nI pb.toNat) r1 t1 x1 u2 w3 re) H → va_S (aj_In 8 ad) s.heap H locs → ∀ (ls : Array Slot), lv_has ls 3 [(0, .ref (ad 0)), (1, .int (nI q)), (2, .int (nI r))] → W p l e (aj_rm 1) s m args below meth c H locs 0 0 Q (F0 m 172 ls []) := by
                        intro n_172
                        induction n_172 with
                        | zero =>
                          intro r w3 hr hW3 hfu H locs hP hS ls hl
                          exfalso; omega
                        | succ n_172 ih_172 =>
                          intro r w3 hr hW3 hfu H locs hP hS ls hl
                          refine lv_iload_n hx hb dX0_pass_172 rfl (lv_at hl 2 rfl) ?_
                          refine lv_bipush (v := nI 8) hx hb dX0_pass_173 (by decide) ?_
                          refine aj_ge (tgt := 220) hx hb (by omega) (by decide) dX0_pass_175 (by decide) (fun c_175 => ?_) (fun c_175 => ?_)
                          ·
                            refine lv_iinc (v := nI (q + 1)) (lv' := [(1, .int (nI (q + 1))), (0, .ref (ad 0)), (2, .int (nI r))]) hx hb dX0_pass_220 hl (k := 1) rfl (nI_add q 1) (by decide) rfl (fun ls hl => ?_)
                            refine lv_goto (tgt := 164) hx hb dX0_pass_223 (by decide) ?_
                            exact ih_164 (q + 1) w3 (by omega) (by intro j hj; have h9 := hW3 j hj; rw [if_pos (by omega)] at h9; exact h9) (by omega) _ _ hP hS _ (lv_sub hl [1, 0] rfl)
                          ·
                            refine lv_aload_n hx hb dX0_pass_178 rfl (lv_at hl 0 rfl) ?_
                            refine lv_iconst (v := nI 1) hx hb dX0_pass_179 (by decide) ?_
                            refine lv_iload_n hx hb dX0_pass_180 rfl (lv_at hl 1 rfl) ?_
                            refine lv_iload_n hx hb dX0_pass_181 rfl (lv_at hl 2 rfl) ?_
                            refine aj_callR (As := [.int (nI 1), .int (nI q), .int (nI r)]) (rest := []) F (aj_there l hG (by decide) (by omega) (by omega)) aj_gX0_X0_there aj_hX0_there (aj_rmR (by decide) (by decide)) rfl rfl hK hP (va_recv (q0 := 0) hK hP (ci := 0) rfl rfl) rfl hl.1 rfl (Nat.le_of_ble_eq_true rfl) ⟨Nat.zero_le _, Nat.zero_le _⟩ dX0_pass_182 ?_
                            refine aj_ifeqB (tgt := 214) hx hb dX0_pass_185 (by decide) (fun c_185 => ?_) (fun c_185 => ?_)
                            ·
                              refine lv_iinc (v := nI (r + 1)) (lv' := [(2, .int (nI (r + 1))), (0, .ref (ad 0)), (1, .int (nI q))]) hx hb dX0_pass_214 hl (k := 2) rfl (nI_add r 1) (by decide) rfl (fun ls hl => ?_)
                              refine lv_goto (tgt := 172) hx hb dX0_pass_217 (by decide) ?_
                              exact ih_172 (r + 1) w3 (by omega) (by intro j hj; have h9 := hW3 j hj; by_cases e : j = r; (subst e; simp at h9; simp [upd, aj_sm, c_185, h9]); have e2 : (j < r + 1) = (j < r) := propext ⟨fun _ => (by omega), fun _ => (by omega)⟩; simp only [e2]; simpa [upd, e] using h9) (by omega) _ _ hP hS _ (lv_sub hl [1, 2, 0] rfl)
                            ·
                              refine lv_aload_n hx hb dX0_pass_188 rfl (lv_at hl 0 rfl) ?_
                              refine va_get (D := D) (ci := 0) (v := .ref (ad 7)) (C := RX0) (T := TX0) (N := 9) hx hb hts in_X0 hown hK hP 0 rfl rfl 7 (by decide) (hts _ q39) (fun _ h9 => h9) rfl dX0_pass_189 ?_
                              refine lv_iload_n hx hb dX0_pass_192 rfl (lv_at hl 2 rfl) ?_
                              refine lv_aload_n hx hb dX0_pass_193 rfl (lv_at hl 0 rfl) ?_
                              refine va_get (D := D) (ci := 0) (v := .ref (ad 7)) (C := RX0) (T := TX0) (N := 9) hx hb hts in_X0 hown hK hP 0 rfl rfl 7 (by decide) (hts _ q39) (fun _ h9 => h9) rfl dX0_pass_194 ?_
                              refine lv_iload_n hx hb dX0_pass_197 rfl (lv_at hl 2 rfl) ?_
                              refine aj_iald (y := nI (aj_sm (fun z => (G 1 z r).toNat * (aj_uQ G z * aj_cT G z)) q)) hx hb hK hP 7 0 rfl rfl (by omega) (by decide) (by simpa using hW3 r (by omega)) dX0_pass_198 ?_
                              refine lv_aload_n hx hb dX0_pass_199 rfl (lv_at hl 0 rfl) ?_
                              refine va_get (D := D) (ci := 0) (v := .ref (ad 6)) (C := RX0) (T := TX0) (N := 9) hx hb hts in_X0 hown hK hP 0 rfl rfl 6 (by decide) (hts _ q38) (fun _ h9 => h9) rfl dX0_pass_200 ?_
                              refine lv_iload_n hx hb dX0_pass_203 rfl (lv_at hl 1 rfl) ?_
                              refine aj_iald (y := nI (aj_uQ G q)) hx hb hK hP 6 0 rfl rfl (by omega) (by decide) (hA _ (by omega)).2 dX0_pass_204 ?_
                              refine lv_aload_n hx hb dX0_pass_205 rfl (lv_at hl 0 rfl) ?_
                              refine va_get (D := D) (ci := 0) (v := .ref (ad 4)) (C := RX0) (T := TX0) (N := 9) hx hb hts in_X0 hown hK hP 0 rfl rfl 4 (by decide) (hts _ q36) (fun _ h9 => h9) rfl dX0_pass_206 ?_
                              refine lv_iload_n hx hb dX0_pass_209 rfl (lv_at hl 1 rfl) ?_
                              refine aj_iald (y := nI (aj_cT G q)) hx hb hK hP 4 0 rfl rfl (by omega) (by decide) (hI _ (by omega)).2.1 dX0_pass_210 ?_
                              refine aj_imul hx hb dX0_pass_211 ?_
                              refine aj_iadd hx hb dX0_pass_212 ?_
                              refine aj_iast hx hb hK hP (aj_cD hap) hS 7 0 rfl rfl (by omega) (by decide) dX0_pass_213 (fun H locs hP hS => ?_)
                              have hP : va_P D aj_cl (aj_cW ad d N S (nI pb.toNat) r1 t1 x1 u2 (upd w3 r (nI ((aj_sm (fun z => (G 1 z r).toNat * (aj_uQ G z * aj_cT G z)) q) + ((aj_uQ G q) * (aj_cT G q))))) re) H := hP
                              refine lv_iinc (v := nI (r + 1)) (lv' := [(2, .int (nI (r + 1))), (0, .ref (ad 0)), (1, .int (nI q))]) hx hb dX0_pass_214 hl (k := 2) rfl (nI_add r 1) (by decide) rfl (fun ls hl => ?_)
                              refine lv_goto (tgt := 172) hx hb dX0_pass_217 (by decide) ?_
                              exact ih_172 (r + 1) (upd w3 r (nI ((aj_sm (fun z => (G 1 z r).toNat * (aj_uQ G z * aj_cT G z)) q) + ((aj_uQ G q) * (aj_cT G q))))) (by omega) (by intro j hj; have h9 := hW3 j hj; by_cases e : j = r; (subst e; simp at h9; simp [upd, aj_sm, c_185, h9]); have e2 : (j < r + 1) = (j < r) := propext ⟨fun _ => (by omega), fun _ => (by omega)⟩; simp only [e2]; simpa [upd, e] using h9) (by omega) _ _ hP hS _ (lv_sub hl [1, 2, 0] rfl)
                      exact L_172 9 0 w2 (by omega) (by intro j hj; simpa using hW j hj) (by omega) _ _ hP hS _ (lv_sub hl [1, 2, 0] rfl)
                exact L_164 9 0 w1 (by omega) (by intro j hj; exact (hI j (by omega)).2.2.2) (by omega) _ _ hP hS _ (lv_sub hl [1, 0] rfl)
              ·
                refine lv_aload_n hx hb dX0_pass_82 rfl (lv_at hl 0 rfl) ?_
                refine va_get (D := D) (ci := 0) (v := .ref (ad 5)) (C := RX0) (T := TX0) (N := 9) hx hb hts in_X0 hown hK hP 0 rfl rfl 5 (by decide) (hts _ q37) (fun _ h9 => h9) rfl dX0_pass_83 ?_
                refine lv_iload_n hx hb dX0_pass_86 rfl (lv_at hl 1 rfl) ?_
                refine lv_iconst (v := nI 0) hx hb dX0_pass_87 (by decide) ?_
                refine aj_iast hx hb hK hP (aj_cD hap) hS 5 0 rfl rfl (by omega) (by decide) dX0_pass_88 (fun H locs hP hS => ?_)
                have hP : va_P D aj_cl (aj_cW ad d N S (nI pb.toNat) r1 t1 (upd x1 q (nI 0)) u2 w1 re) H := hP
                refine lv_iconst (v := nI 0) hx hb dX0_pass_89 (by decide) ?_
                refine lv_istore_n (lv' := [(2, .int (nI 0)), (0, .ref (ad 0)), (1, .int (nI q))]) hx hb dX0_pass_90 rfl hl (by decide) rfl (fun ls hl => ?_)
                have L_91 : ∀ (n_91 : Nat), ∀ (v : Nat) (x2 : Nat → Int32) (u3 : Nat → Int32), v ≤ 8 → (x2 q = nI (aj_sm (fun z => (G 1 q z).toNat * aj_cR G z) v) ∧ u3 q = nI (aj_sm (fun z => (G 0 z q).toNat) v)) → (∀ j, j < q → x2 j = nI (aj_cQ G j) ∧ u3 j = nI (aj_uQ G j)) → (∀ j, q < j → j < 8 → u3 j = nI 0) → 9 ≤ v + n_91 → ∀ (H : Heap) (locs : List Loc), va_P D aj_cl (aj_cW ad d N S (nI pb.toNat) r1 t1 x2 u3 w1 re) H → va_S (aj_In 8 ad) s.heap H locs → ∀ (ls : Array Slot), lv_has ls 3 [(0, .ref (ad 0)), (1, .int (nI q)), (2, .int (nI v))] → W p l e (aj_rm 1) s m args below meth c H locs 0 0 Q (F0 m 91 ls []) := by
                  intro n_91
                  induction n_91 with
                  | zero =>
                    intro v x2 u3 hv hE hA2 hB2 hfu H locs hP hS ls hl
                    exfalso; omega
                  | succ n_91 ih_91 =>
                    intro v x2 u3 hv hE hA2 hB2 hfu H locs hP hS ls hl
                    refine lv_iload_n hx hb dX0_pass_91 rfl (lv_at hl 2 rfl) ?_
                    refine lv_bipush (v := nI 8) hx hb dX0_pass_92 (by decide) ?_
                    refine aj_ge (tgt := 156) hx hb (by omega) (by decide) dX0_pass_94 (by decide) (fun c_94 => ?_) (fun c_94 => ?_)
                    ·
                      refine lv_iinc (v := nI (q + 1)) (lv' := [(1, .int (nI (q + 1))), (0, .ref (ad 0)), (2, .int (nI v))]) hx hb dX0_pass_156 hl (k := 1) rfl (nI_add q 1) (by decide) rfl (fun ls hl => ?_)
                      refine lv_goto (tgt := 76) hx hb dX0_pass_159 (by decide) ?_
                      exact ih_76 (q + 1) x2 u3 (by omega) (by intro j hj; by_cases e : j = q; (subst e; obtain rfl : v = 8 := (by omega); exact hE); exact hA2 j (by omega)) (by intro j hj hj8; exact hB2 j (by omega) hj8) (by omega) _ _ hP hS _ (lv_sub hl [1, 0] rfl)
                    ·
                      refine lv_aload_n hx hb dX0_pass_97 rfl (lv_at hl 0 rfl) ?_
                      refine lv_iconst (v := nI 1) hx hb dX0_pass_98 (by decide) ?_
                      refine lv_iload_n hx hb dX0_pass_99 rfl (lv_at hl 1 rfl) ?_
                      refine lv_iload_n hx hb dX0_pass_100 rfl (lv_at hl 2 rfl) ?_
                      refine aj_callR (As := [.int (nI 1), .int (nI q), .int (nI v)]) (rest := []) F (aj_there l hG (by decide) (by omega) (by omega)) aj_gX0_X0_there aj_hX0_there (aj_rmR (by decide) (by decide)) rfl rfl hK hP (va_recv (q0 := 0) hK hP (ci := 0) rfl rfl) rfl hl.1 rfl (Nat.le_of_ble_eq_true rfl) ⟨Nat.zero_le _, Nat.zero_le _⟩ dX0_pass_101 ?_
                      refine aj_ifeqB (tgt := 126) hx hb dX0_pass_104 (by decide) (fun c_104 => ?_) (fun c_104 => ?_)
                      ·
                        refine lv_aload_n hx hb dX0_pass_126 rfl (lv_at hl 0 rfl) ?_
                        refine lv_iconst (v := nI 0) hx hb dX0_pass_127 (by decide) ?_
                        refine lv_iload_n hx hb dX0_pass_128 rfl (lv_at hl 2 rfl) ?_
                        refine lv_iload_n hx hb dX0_pass_129 rfl (lv_at hl 1 rfl) ?_
                        refine aj_callR (As := [.int (nI 0), .int (nI v), .int (nI q)]) (rest := []) F (aj_there l hG (by decide) (by omega) (by omega)) aj_gX0_X0_there aj_hX0_there (aj_rmR (by decide) (by decide)) rfl rfl hK hP (va_recv (q0 := 0) hK hP (ci := 0) rfl rfl) rfl hl.1 rfl (Nat.le_of_ble_eq_true rfl) ⟨Nat.zero_le _, Nat.zero_le _⟩ dX0_pass_130 ?_
                        refine aj_ifeqB (tgt := 150) hx hb dX0_pass_133 (by decide) (fun c_133 => ?_) (fun c_133 => ?_)
                        ·
                          refine lv_iinc (v := nI (v + 1)) (lv' := [(2, .int (nI (v + 1))), (0, .ref (ad 0)), (1, .int (nI q))]) hx hb dX0_pass_150 hl (k := 2) rfl (nI_add v 1) (by decide) rfl (fun ls hl => ?_)
                          refine lv_goto (tgt := 91) hx hb dX0_pass_153 (by decide) ?_
                          exact ih_91 (v + 1) x2 u3 (by omega) (by obtain ⟨e1, e2⟩ := hE; simp [aj_sm, upd, c_104, c_133, e1, e2]) (by intro j hj; have e : ¬ j = q := (by omega); simpa [upd, e] using hA2 j hj) (by intro j hj hj8; have e : ¬ j = q := (by omega); simpa [upd, e] using hB2 j hj hj8) (by omega) _ _ hP hS _ (lv_sub hl [1, 2, 0] rfl)
                        ·
                          refine lv_aload_n hx hb dX0_pass_136 rfl (lv_at hl 0 rfl) ?_
                          refine va_get (D := D) (ci := 0) (v := .ref (ad 6)) (C := RX0) (T := TX0) (N := 9) hx hb hts in_X0 hown hK hP 0 rfl rfl 6 (by decide) (hts _ q38) (fun _ h9 => h9) rfl dX0_pass_137 ?_
                          refine lv_iload_n hx hb dX0_pass_140 rfl (lv_at hl 1 rfl) ?_
                          refine lv_aload_n hx hb dX0_pass_141 rfl (lv_at hl 0 rfl) ?_
                          refine va_get (D := D) (ci := 0) (v := .ref (ad 6)) (C := RX0) (T := TX0) (N := 9) hx hb hts in_X0 hown hK hP 0 rfl rfl 6 (by decide) (hts _ q38) (fun _ h9 => h9) rfl dX0_pass_142 ?_
                          refine lv_iload_n hx hb dX0_pass_145 rfl (lv_at hl 1 rfl) ?_
                          refine aj_iald (y := nI (aj_sm (fun z => (G 0 z q).toNat) v)) hx hb hK hP 6 0 rfl rfl (by omega) (by decide) hE.2 dX0_pass_146 ?_
                          refine lv_iconst (v := nI 1) hx hb dX0_pass_147 (by decide) ?_
                          refine aj_iadd hx hb dX0_pass_148 ?_
                          refine aj_iast hx hb hK hP (aj_cD hap) hS 6 0 rfl rfl (by omega) (by decide) dX0_pass_149 (fun H locs hP hS => ?_)
                          have hP : va_P D aj_cl (aj_cW ad d N S (nI pb.toNat) r1 t1 x2 (upd u3 q (nI ((aj_sm (fun z => (G 0 z q).toNat) v) + 1))) w1 re) H := hP
                          refine lv_iinc (v := nI (v + 1)) (lv' := [(2, .int (nI (v + 1))), (0, .ref (ad 0)), (1, .int (nI q))]) hx hb dX0_pass_150 hl (k := 2) rfl (nI_add v 1) (by decide) rfl (fun ls hl => ?_)
                          refine lv_goto (tgt := 91) hx hb dX0_pass_153 (by decide) ?_
                          exact ih_91 (v + 1) x2 (upd u3 q (nI ((aj_sm (fun z => (G 0 z q).toNat) v) + 1))) (by omega) (by obtain ⟨e1, e2⟩ := hE; simp [aj_sm, upd, c_104, c_133, e1, e2]) (by intro j hj; have e : ¬ j = q := (by omega); simpa [upd, e] using hA2 j hj) (by intro j hj hj8; have e : ¬ j = q := (by omega); simpa [upd, e] using hB2 j hj hj8) (by omega) _ _ hP hS _ (lv_sub hl [1, 2, 0] rfl)
                      ·
                        refine lv_aload_n hx hb dX0_pass_107 rfl (lv_at hl 0 rfl) ?_
                        refine va_get (D := D) (ci := 0) (v := .ref (ad 5)) (C := RX0) (T := TX0) (N := 9) hx hb hts in_X0 hown hK hP 0 rfl rfl 5 (by decide) (hts _ q37) (fun _ h9 => h9) rfl dX0_pass_108 ?_
                        refine lv_iload_n hx hb dX0_pass_111 rfl (lv_at hl 1 rfl) ?_
                        refine lv_aload_n hx hb dX0_pass_112 rfl (lv_at hl 0 rfl) ?_
                        refine va_get (D := D) (ci := 0) (v := .ref (ad 5)) (C := RX0) (T := TX0) (N := 9) hx hb hts in_X0 hown hK hP 0 rfl rfl 5 (by decide) (hts _ q37) (fun _ h9 => h9) rfl dX0_pass_113 ?_
                        refine lv_iload_n hx hb dX0_pass_116 rfl (lv_at hl 1 rfl) ?_
                        refine aj_iald (y := nI (aj_sm (fun z => (G 1 q z).toNat * aj_cR G z) v)) hx hb hK hP 5 0 rfl rfl (by omega) (by decide) hE.1 dX0_pass_117 ?_
                        refine lv_aload_n hx hb dX0_pass_118 rfl (lv_at hl 0 rfl) ?_
                        refine va_get (D := D) (ci := 0) (v := .ref (ad 3)) (C := RX0) (T := TX0) (N := 9) hx hb hts in_X0 hown hK hP 0 rfl rfl 3 (by decide) (hts _ q35) (fun _ h9 => h9) rfl dX0_pass_119 ?_
                        refine lv_iload_n hx hb dX0_pass_122 rfl (lv_at hl 2 rfl) ?_
                        refine aj_iald (y := nI (aj_cR G v)) hx hb hK hP 3 0 rfl rfl (by omega) (by decide) (hI _ (by omega)).1 dX0_pass_123 ?_
                        refine aj_iadd hx hb dX0_pass_124 ?_
                        refine aj_iast hx hb hK hP (aj_cD hap) hS 5 0 rfl rfl (by omega) (by decide) dX0_pass_125 (fun H locs hP hS => ?_)
                        have hP : va_P D aj_cl (aj_cW ad d N S (nI pb.toNat) r1 t1 (upd x2 q (nI ((aj_sm (fun z => (G 1 q z).toNat * aj_cR G z) v) + (aj_cR G v)))) u3 w1 re) H := hP
                        refine lv_aload_n hx hb dX0_pass_126 rfl (lv_at hl 0 rfl) ?_
                        refine lv_iconst (v := nI 0) hx hb dX0_pass_127 (by decide) ?_
                        refine lv_iload_n hx hb dX0_pass_128 rfl (lv_at hl 2 rfl) ?_
                        refine lv_iload_n hx hb dX0_pass_129 rfl (lv_at hl 1 rfl) ?_
                        refine aj_callR (As := [.int (nI 0), .int (nI v), .int (nI q)]) (rest := []) F (aj_there l hG (by decide) (by omega) (by omega)) aj_gX0_X0_there aj_hX0_there (aj_rmR (by decide) (by decide)) rfl rfl hK hP (va_recv (q0 := 0) hK hP (ci := 0) rfl rfl) rfl hl.1 rfl (Nat.le_of_ble_eq_true rfl) ⟨Nat.zero_le _, Nat.zero_le _⟩ dX0_pass_130 ?_
                        refine aj_ifeqB (tgt := 150) hx hb dX0_pass_133 (by decide) (fun c_133 => ?_) (fun c_133 => ?_)
                        ·
                          refine lv_iinc (v := nI (v + 1)) (lv' := [(2, .int (nI (v + 1))), (0, .ref (ad 0)), (1, .int (nI q))]) hx hb dX0_pass_150 hl (k := 2) rfl (nI_add v 1) (by decide) rfl (fun ls hl => ?_)
                          refine lv_goto (tgt := 91) hx hb dX0_pass_153 (by decide) ?_
                          exact ih_91 (v + 1) (upd x2 q (nI ((aj_sm (fun z => (G 1 q z).toNat * aj_cR G z) v) + (aj_cR G v)))) u3 (by omega) (by obtain ⟨e1, e2⟩ := hE; simp [aj_sm, upd, c_104, c_133, e1, e2]) (by intro j hj; have e : ¬ j = q := (by omega); simpa [upd, e] using hA2 j hj) (by intro j hj hj8; have e : ¬ j = q := (by omega); simpa [upd, e] using hB2 j hj hj8) (by omega) _ _ hP hS _ (lv_sub hl [1, 2, 0] rfl)
                        ·
                          refine lv_aload_n hx hb dX0_pass_136 rfl (lv_at hl 0 rfl) ?_
                          refine va_get (D := D) (ci := 0) (v := .ref (ad 6)) (C := RX0) (T := TX0) (N := 9) hx hb hts in_X0 hown hK hP 0 rfl rfl 6 (by decide) (hts _ q38) (fun _ h9 => h9) rfl dX0_pass_137 ?_
                          refine lv_iload_n hx hb dX0_pass_140 rfl (lv_at hl 1 rfl) ?_
                          refine lv_aload_n hx hb dX0_pass_141 rfl (lv_at hl 0 rfl) ?_
                          refine va_get (D := D) (ci := 0) (v := .ref (ad 6)) (C := RX0) (T := TX0) (N := 9) hx hb hts in_X0 hown hK hP 0 rfl rfl 6 (by decide) (hts _ q38) (fun _ h9 => h9) rfl dX0_pass_142 ?_
                          refine lv_iload_n hx hb dX0_pass_145 rfl (lv_at hl 1 rfl) ?_
                          refine aj_iald (y := nI (aj_sm (fun z => (G 0 z q).toNat) v)) hx hb hK hP 6 0 rfl rfl (by omega) (by decide) hE.2 dX0_pass_146 ?_
                          refine lv_iconst (v := nI 1) hx hb dX0_pass_147 (by decide) ?_
                          refine aj_iadd hx hb dX0_pass_148 ?_
                          refine aj_iast hx hb hK hP (aj_cD hap) hS 6 0 rfl rfl (by omega) (by decide) dX0_pass_149 (fun H locs hP hS => ?_)
                          have hP : va_P D aj_cl (aj_cW ad d N S (nI pb.toNat) r1 t1 (upd x2 q (nI ((aj_sm (fun z => (G 1 q z).toNat * aj_cR G z) v) + (aj_cR G v)))) (upd u3 q (nI ((aj_sm (fun z => (G 0 z q).toNat) v) + 1))) w1 re) H := hP
                          refine lv_iinc (v := nI (v + 1)) (lv' := [(2, .int (nI (v + 1))), (0, .ref (ad 0)), (1, .int (nI q))]) hx hb dX0_pass_150 hl (k := 2) rfl (nI_add v 1) (by decide) rfl (fun ls hl => ?_)
                          refine lv_goto (tgt := 91) hx hb dX0_pass_153 (by decide) ?_
                          exact ih_91 (v + 1) (upd x2 q (nI ((aj_sm (fun z => (G 1 q z).toNat * aj_cR G z) v) + (aj_cR G v)))) (upd u3 q (nI ((aj_sm (fun z => (G 0 z q).toNat) v) + 1))) (by omega) (by obtain ⟨e1, e2⟩ := hE; simp [aj_sm, upd, c_104, c_133, e1, e2]) (by intro j hj; have e : ¬ j = q := (by omega); simpa [upd, e] using hA2 j hj) (by intro j hj hj8; have e : ¬ j = q := (by omega); simpa [upd, e] using hB2 j hj hj8) (by omega) _ _ hP hS _ (lv_sub hl [1, 2, 0] rfl)
                exact L_91 9 0 (upd x1 q (nI 0)) u2 (by omega) ⟨by simp [upd, aj_sm], hB q (by omega) (by omega)⟩ (by intro j hj; have e : ¬ j = q := (by omega); simpa [upd, e] using hA j hj) (by intro j hj hj8; exact hB j (by omega) hj8) (by omega) _ _ hP hS _ (lv_sub hl [1, 2, 0] rfl)
          exact L_76 9 0 dQ u1 (by omega) (by intro j hj; omega) (by intro j _ hj; exact (hI j (by omega)).2.2.1) (by omega) _ _ hP hS _ (lv_sub hl [1, 0] rfl)
        ·
          refine lv_aload_n hx hb dX0_pass_16 rfl (lv_at hl 0 rfl) ?_
          refine va_get (D := D) (ci := 0) (v := .ref (ad 3)) (C := RX0) (T := TX0) (N := 9) hx hb hts in_X0 hown hK hP 0 rfl rfl 3 (by decide) (hts _ q35) (fun _ h9 => h9) rfl dX0_pass_17 ?_
          refine lv_iload_n hx hb dX0_pass_20 rfl (lv_at hl 1 rfl) ?_
          refine lv_aload_n hx hb dX0_pass_21 rfl (lv_at hl 0 rfl) ?_
          refine lv_aload_n hx hb dX0_pass_22 rfl (lv_at hl 0 rfl) ?_
          refine va_get (D := D) (ci := 0) (v := .ref (ad 1)) (C := RX0) (T := TX0) (N := 9) hx hb hts in_X0 hown hK hP 0 rfl rfl 0 (by decide) (hts _ q32) (fun _ h9 => h9) rfl dX0_pass_23 ?_
          refine lv_bipush (v := nI 16) hx hb dX0_pass_26 (by decide) ?_
          refine lv_iload_n hx hb dX0_pass_28 rfl (lv_at hl 1 rfl) ?_
          refine aj_iadd hx hb dX0_pass_29 ?_
          refine aj_iald (y := N (16 + v)) hx hb hK hP 1 0 rfl rfl (by omega) (by decide) rfl dX0_pass_30 ?_
          refine aj_callR (As := [.int (N (16 + v))]) (rest := [.int (nI v), .ref (ad 3)]) F (aj_sizeOf l (f := fun b => (G 2 v b).toNat) (fun b hb9 => hG 2 v b (by decide) (by omega) hb9)) aj_gX0_X0_sizeOf aj_hX0_sizeOf (aj_rmR (by decide) (by decide)) rfl rfl hK hP (va_recv (q0 := 0) hK hP (ci := 0) rfl rfl) rfl hl.1 rfl (Nat.le_of_ble_eq_true rfl) ⟨Nat.zero_le _, Nat.zero_le _⟩ dX0_pass_31 ?_
          refine aj_iast hx hb hK hP (aj_cD hap) hS 3 0 rfl rfl (by omega) (by decide) dX0_pass_34 (fun H locs hP hS => ?_)
          have hP : va_P D aj_cl (aj_cW ad d N S (nI pb.toNat) (upd r1 v (nI (aj_cR G v))) t1 dQ u1 w1 re) H := hP
          refine lv_aload_n hx hb dX0_pass_35 rfl (lv_at hl 0 rfl) ?_
          refine va_get (D := D) (ci := 0) (v := .ref (ad 4)) (C := RX0) (T := TX0) (N := 9) hx hb hts in_X0 hown hK hP 0 rfl rfl 4 (by decide) (hts _ q36) (fun _ h9 => h9) rfl dX0_pass_36 ?_
          refine lv_iload_n hx hb dX0_pass_39 rfl (lv_at hl 1 rfl) ?_
          refine lv_aload_n hx hb dX0_pass_40 rfl (lv_at hl 0 rfl) ?_
          refine lv_aload_n hx hb dX0_pass_41 rfl (lv_at hl 0 rfl) ?_
          refine va_get (D := D) (ci := 0) (v := .ref (ad 1)) (C := RX0) (T := TX0) (N := 9) hx hb hts in_X0 hown hK hP 0 rfl rfl 0 (by decide) (hts _ q32) (fun _ h9 => h9) rfl dX0_pass_42 ?_
          refine lv_bipush (v := nI 24) hx hb dX0_pass_45 (by decide) ?_
          refine lv_iload_n hx hb dX0_pass_47 rfl (lv_at hl 1 rfl) ?_
          refine aj_iadd hx hb dX0_pass_48 ?_
          refine aj_iald (y := N (24 + v)) hx hb hK hP 1 0 rfl rfl (by omega) (by decide) rfl dX0_pass_49 ?_
          refine aj_callR (As := [.int (N (24 + v))]) (rest := [.int (nI v), .ref (ad 4)]) F (aj_sizeOf l (f := fun b => (G 3 v b).toNat) (fun b hb9 => hG 3 v b (by decide) (by omega) hb9)) aj_gX0_X0_sizeOf aj_hX0_sizeOf (aj_rmR (by decide) (by decide)) rfl rfl hK hP (va_recv (q0 := 0) hK hP (ci := 0) rfl rfl) rfl hl.1 rfl (Nat.le_of_ble_eq_true rfl) ⟨Nat.zero_le _, Nat.zero_le _⟩ dX0_pass_50 ?_
          refine aj_iast hx hb hK hP (aj_cD hap) hS 4 0 rfl rfl (by omega) (by decide) dX0_pass_53 (fun H locs hP hS => ?_)
          have hP : va_P D aj_cl (aj_cW ad d N S (nI pb.toNat) (upd r1 v (nI (aj_cR G v))) (upd t1 v (nI (aj_cT G v))) dQ u1 w1 re) H := hP
          refine lv_aload_n hx hb dX0_pass_54 rfl (lv_at hl 0 rfl) ?_
          refine va_get (D := D) (ci := 0) (v := .ref (ad 6)) (C := RX0) (T := TX0) (N := 9) hx hb hts in_X0 hown hK hP 0 rfl rfl 6 (by decide) (hts _ q38) (fun _ h9 => h9) rfl dX0_pass_55 ?_
          refine lv_iload_n hx hb dX0_pass_58 rfl (lv_at hl 1 rfl) ?_
          refine lv_iconst (v := nI 0) hx hb dX0_pass_59 (by decide) ?_
          refine aj_iast hx hb hK hP (aj_cD hap) hS 6 0 rfl rfl (by omega) (by decide) dX0_pass_60 (fun H locs hP hS => ?_)
          have hP : va_P D aj_cl (aj_cW ad d N S (nI pb.toNat) (upd r1 v (nI (aj_cR G v))) (upd t1 v (nI (aj_cT G v))) dQ (upd u1 v (nI 0)) w1 re) H := hP
          refine lv_aload_n hx hb dX0_pass_61 rfl (lv_at hl 0 rfl) ?_
          refine va_get (D := D) (ci := 0) (v := .ref (ad 7)) (C := RX0) (T := TX0) (N := 9) hx hb hts in_X0 hown hK hP 0 rfl rfl 7 (by decide) (hts _ q39) (fun _ h9 => h9) rfl dX0_pass_62 ?_
          refine lv_iload_n hx hb dX0_pass_65 rfl (lv_at hl 1 rfl) ?_
          refine lv_iconst (v := nI 0) hx hb dX0_pass_66 (by decide) ?_
          refine aj_iast hx hb hK hP (aj_cD hap) hS 7 0 rfl rfl (by omega) (by decide) dX0_pass_67 (fun H locs hP hS => ?_)
          have hP : va_P D aj_cl (aj_cW ad d N S (nI pb.toNat) (upd r1 v (nI (aj_cR G v))) (upd t1 v (nI (aj_cT G v))) dQ (upd u1 v (nI 0)) (upd w1 v (nI 0)) re) H := hP
          refine lv_iinc (v := nI (v + 1)) (lv' := [(1, .int (nI (v + 1))), (0, .ref (ad 0))]) hx hb dX0_pass_68 hl (k := 1) rfl (nI_add v 1) (by decide) rfl (fun ls hl => ?_)
          refine lv_goto (tgt := 10) hx hb dX0_pass_71 (by decide) ?_
          exact ih_10 (v + 1) (upd r1 v (nI (aj_cR G v))) (upd t1 v (nI (aj_cT G v))) (upd u1 v (nI 0)) (upd w1 v (nI 0)) (by omega) (by intro j hj; by_cases e : j = v; (subst e; simp [upd]); (simpa [upd, e] using hI j (by omega))) (by omega) _ _ hP hS _ (lv_sub hl [1, 0] rfl)
    exact L_10 9 0 dR dT uQ uR (by omega) (by intro j hj; omega) (by omega) _ _ hP hS _ (lv_sub hl [1, 0] rfl)
  ·
    exact hret _ _ _ _ dX0_pass_7 hS (⟨dR, dT, dQ, uQ, uR, hC c_4, by rw [c_4] at hP; exact hP⟩)

end
end
section
/-! rows on the bits of an int (the family bt is pasted from the kit's laws), the tables under put, drop, clear -/
section
def bt (x : Int32) (i : Nat) : Bool := x.toBitVec.getLsbD i
theorem b_ext {x y : Int32} (h : ∀ i, i < 32 → bt x i = bt y i) : x = y := Int32.toBitVec_inj.mp (BitVec.eq_of_getLsbD_eq (fun i hi => h i hi))
theorem b_or (x y : Int32) (i : Nat) : bt (x ||| y) i = (bt x i || bt y i) := by unfold bt; rw [Int32.toBitVec_or, BitVec.getLsbD_or]
theorem b_and (x y : Int32) (i : Nat) : bt (x &&& y) i = (bt x i && bt y i) := by unfold bt; rw [Int32.toBitVec_and, BitVec.getLsbD_and]
theorem b_xor (x y : Int32) (i : Nat) : bt (x ^^^ y) i = (bt x i ^^ bt y i) := by unfold bt; rw [Int32.toBitVec_xor, BitVec.getLsbD_xor]
theorem b_big {x : Int32} {i : Nat} (h : 32 ≤ i) : bt x i = false := BitVec.getLsbD_of_ge _ _ h
theorem b_m1 : ∀ i, i < 32 → bt (-1) i = true := by decide +kernel
theorem b_0 (i : Nat) : bt 0 i = false := BitVec.getLsbD_zero
theorem s_l : ∀ n, n < 32 → ((nI n &&& 31).toBitVec.smod 32).toNat = n := by decide +kernel
theorem b_shl (n : Nat) (hn : n < 32) (x : Int32) {i : Nat} (hi : i < 32) : bt (x <<< (nI n &&& 31)) i = (decide (n ≤ i) && bt x (i - n)) := by
  unfold bt
  rw [Int32.toBitVec_shiftLeft]
  show (x.toBitVec <<< ((nI n &&& 31).toBitVec.smod 32).toNat).getLsbD i = _
  rw [s_l n hn, BitVec.getLsbD_shiftLeft]
  rcases Nat.lt_or_ge i n with h | h
  · simp [h, Nat.not_le.mpr h]
  · simp [hi, h, Nat.not_lt.mpr h]
theorem b_sshr (n : Nat) (hn : n < 32) (x : Int32) {i : Nat} (hi : i < 32) : bt (x >>> (nI n &&& 31)) i = if n + i < 32 then bt x (n + i) else bt x 31 := by
  unfold bt
  rw [Int32.toBitVec_shiftRight]
  show (x.toBitVec.sshiftRight ((nI n &&& 31).toBitVec.smod 32).toNat).getLsbD i = _
  rw [s_l n hn, BitVec.getLsbD_sshiftRight, BitVec.msb_eq_getLsbD_last]
  simp [hi]
theorem aj_bt1 (i : Nat) (h : i < 32) : bt (nI 1) i = decide (i = 0) := (by decide +kernel : ∀ i, i < 32 → bt (nI 1) i = decide (i = 0)) i h
/-- the bit that there and sizeOf ask for -/
theorem aj_bit (x : Int32) {c : Nat} (hc : c < 32) : (x >>> (nI c &&& 31)) &&& nI 1 = nI (bt x c).toNat := by
  refine b_ext (fun i hi => ?_)
  rw [b_and, aj_bt1 i hi, b_sshr c hc x hi]
  have h0 : ∀ (b : Bool) (i : Nat), i < 32 → bt (nI b.toNat) i = (b && decide (i = 0)) := by
    intro b i hi
    cases b
    · exact (by decide +kernel : ∀ i, i < 32 → bt (nI 0) i = (false && decide (i = 0))) i hi
    · exact (by decide +kernel : ∀ i, i < 32 → bt (nI 1) i = (true && decide (i = 0))) i hi
  rw [h0 _ i hi]
  by_cases e : i = 0
  · subst e
    simp [hc]
  · simp [e]
theorem aj_toNat_inj {a b : Bool} (h : nI a.toNat = nI b.toNat) : a = b := by
  cases a <;> cases b
  · rfl
  · exact absurd h (by decide)
  · exact absurd h (by decide)
  · rfl
/-- next's bits are the tables: by bt -/
theorem aj_Rel_iff (N : Nat → Int32) (G : aj_T) : aj_Rel N G ↔ ∀ i a b, i < 4 → a < 8 → b < 8 → bt (N (i * 8 + a)) b = G i a b := by
  constructor
  · intro h i a b h1 h2 h3
    have h4 := h i a b h1 h2 h3
    rw [aj_bit _ (by omega)] at h4
    exact aj_toNat_inj h4
  · intro h i a b h1 h2 h3
    rw [aj_bit _ (by omega), h i a b h1 h2 h3]
def aj_setG (G : aj_T) (i a b : Nat) (v : Bool) : aj_T := fun j c e => if j = i ∧ c = a ∧ e = b then v else G j c e
def aj_clrG (G : aj_T) (i : Nat) : aj_T := fun j c e => if j = i then false else G j c e
theorem aj_b1s (b c : Nat) (hb : b < 32) (hc : c < 32) : bt (nI 1 <<< (nI b &&& 31)) c = decide (c = b) := by
  rw [b_shl b hb _ hc]
  rcases Nat.lt_or_ge c b with h | h
  · rw [decide_eq_false (Nat.not_le.mpr h), decide_eq_false (by omega)]
    rfl
  · rw [decide_eq_true h, aj_bt1 _ (by omega), Bool.true_and]
    exact decide_eq_decide.mpr ⟨fun _ => by omega, fun _ => by omega⟩
theorem aj_Rel_put {N : Nat → Int32} {G : aj_T} (h : aj_Rel N G) {i a b : Nat} (h1 : i < 4) (h2 : a < 8) (h3 : b < 8) : aj_Rel (upd N (i * 8 + a) (N (i * 8 + a) ||| (nI 1 <<< (nI b &&& 31)))) (aj_setG G i a b true) := by
  rw [aj_Rel_iff] at h ⊢
  intro j c e g1 g2 g3
  have h4 := h j c e g1 g2 g3
  by_cases q : j * 8 + c = i * 8 + a
  · obtain rfl : j = i := by omega
    obtain rfl : c = a := by omega
    rw [pk_us, b_or, aj_b1s b e (by omega) (by omega), h4]
    by_cases r : e = b
    · simp [aj_setG, r]
    · simp [aj_setG, r]
  · rw [pk_un q, h4]
    have : ¬ (j = i ∧ c = a ∧ e = b) := fun z => q (by rw [z.1, z.2.1])
    simp only [aj_setG, if_neg this]
theorem aj_Rel_drop {N : Nat → Int32} {G : aj_T} (h : aj_Rel N G) {i a b : Nat} (h1 : i < 4) (h2 : a < 8) (h3 : b < 8) : aj_Rel (upd N (i * 8 + a) (N (i * 8 + a) &&& ((nI 1 <<< (nI b &&& 31)) ^^^ (-1)))) (aj_setG G i a b false) := by
  rw [aj_Rel_iff] at h ⊢
  intro j c e g1 g2 g3
  have h4 := h j c e g1 g2 g3
  by_cases q : j * 8 + c = i * 8 + a
  · obtain rfl : j = i := by omega
    obtain rfl : c = a := by omega
    rw [pk_us, b_and, b_xor, aj_b1s b e (by omega) (by omega), b_m1 e (by omega), h4]
    by_cases r : e = b
    · simp [aj_setG, r]
    · simp [aj_setG, r]
  · rw [pk_un q, h4]
    have : ¬ (j = i ∧ c = a ∧ e = b) := fun z => q (by rw [z.1, z.2.1])
    simp only [aj_setG, if_neg this]
theorem aj_Rel_clr {N N' : Nat → Int32} {G : aj_T} (h : aj_Rel N G) {i : Nat} (h1 : i < 4) (hz : ∀ a, a < 8 → N' (i * 8 + a) = nI 0) (hk : ∀ k, k < i * 8 ∨ i * 8 + 8 ≤ k → N' k = N k) : aj_Rel N' (aj_clrG G i) := by
  rw [aj_Rel_iff] at h ⊢
  intro j c e g1 g2 g3
  by_cases q : j = i
  · subst q
    rw [hz c g2]
    simp only [aj_clrG, if_pos]
    exact (by decide +kernel : ∀ i, i < 32 → bt (nI 0) i = false) e (by omega)
  · rw [hk _ (by omega), h j c e g1 g2 g3]
    simp only [aj_clrG, if_neg q]
/-- what put, drop and clear answer and leave -/
def aj_putV (G : aj_T) (S : Nat → Int32) (i a b : Nat) : Int32 := if G i a b = true then (-4) else if S i = nI 10 then (-2) else S i + nI 1
def aj_putG (G : aj_T) (S : Nat → Int32) (i a b : Nat) : aj_T := if G i a b = true then G else if S i = nI 10 then G else aj_setG G i a b true
def aj_putS (G : aj_T) (S : Nat → Int32) (i a b : Nat) : Nat → Int32 := if G i a b = true then S else if S i = nI 10 then S else upd S i (S i + nI 1)
def aj_dropV (G : aj_T) (S : Nat → Int32) (i a b : Nat) : Int32 := if G i a b = true then S i - nI 1 else (-4)
def aj_dropG (G : aj_T) (i a b : Nat) : aj_T := if G i a b = true then aj_setG G i a b false else G
def aj_dropS (G : aj_T) (S : Nat → Int32) (i a b : Nat) : Nat → Int32 := if G i a b = true then upd S i (S i - nI 1) else S
/-- the component with its numbers passed -/
def aj_CF (D : va_G) (ad : Nat → Nat) (d : ClassId) (G : aj_T) (S : Nat → Int32) (H : Heap) : Prop := ∃ (N dR dT dQ uQ uR : Nat → Int32) (re : Int32), aj_Rel N G ∧ aj_Ca G dR dT dQ uQ uR ∧ aj_cP D ad d N S (nI 1) dR dT dQ uQ uR re H
theorem aj_CF.CC {D : va_G} {ad : Nat → Nat} {d : ClassId} {G : aj_T} {S : Nat → Int32} {H : Heap} (h : aj_CF D ad d G S H) : aj_CC D ad d G S H := by
  obtain ⟨N, dR, dT, dQ, uQ, uR, re, hG, hC, hP⟩ := h
  exact ⟨N, true, dR, dT, dQ, uQ, uR, re, hG, fun _ => hC, hP⟩
def aj_cnt (G : aj_T) : Nat := aj_sm (fun q => aj_uQ G q * aj_be G q) 8
end
end
section
section
theorem aj_out_no4 {x : Int32} (h : aj_out 5 x = true) (h0 : ¬ x < 0) : ¬ x ≤ nI 4 := by
  intro h1
  simp [aj_out, h0] at h
  exact absurd (Int32.le_trans h h1) (by decide)
theorem aj_wno {x y : Int32} (h1 : ¬ x < 0) (h2 : ¬ nI 4 < x) (h3 : ¬ y < 0) (h4 : y < nI 8) : ¬ (aj_out 5 x || aj_out 8 y) = true := by
  intro h
  rcases Bool.or_eq_true_iff.mp h with q | q
  · exact aj_out_no4 q h1 (Int32.not_lt.mp h2)
  · exact aj_out_no q h3 h4
def aj_us2 (G : aj_T) (i a b : Nat) : Nat := (G i a b && decide (0 < aj_sh G i a b)).toNat
def aj_us1 (G : aj_T) (i a : Nat) : Nat := aj_sm (aj_us2 G i a) 8
def aj_usV (G : aj_T) (i : Nat) : Nat := aj_sm (aj_us1 G i) 8
def aj_va1 (G : aj_T) (c v : Nat) : Nat := (decide (0 < aj_col G c v)).toNat
def aj_vaV (G : aj_T) (c : Nat) : Nat := aj_sm (aj_va1 G c) 8
def aj_or (f : Nat → Bool) : Nat → Bool
  | 0 => false
  | n + 1 => aj_or f n || f n
def aj_eb (G : aj_T) (v s : Nat) : Bool := aj_or (fun q => aj_or (fun r => aj_cnd G v q r && G 2 r s) 8) 8
def aj_en1 (G : aj_T) (v : Nat) : Nat := aj_sm (fun s => (aj_eb G v s).toNat) 8
def aj_enV (G : aj_T) : Nat := aj_sm (aj_en1 G) 8
def aj_su1 (G : aj_T) (v : Nat) : Nat := v * (aj_col G 3 v + aj_col G 4 v)
def aj_suV (G : aj_T) : Nat := aj_sm (aj_su1 G) 8
def aj_weV (G : aj_T) (i a b : Nat) : Nat := if G i a b = true then aj_sh G i a b else 0
def aj_gaV (G : aj_T) (i a b : Nat) : Nat := if G i a b = true then 0 else aj_sh G i a b
theorem aj_or_congr {f g : Nat → Bool} : ∀ n, (∀ j, j < n → f j = g j) → aj_or f n = aj_or g n
  | 0, _ => rfl
  | n + 1, h => by
    show (aj_or f n || f n) = (aj_or g n || g n)
    rw [aj_or_congr n (fun j hj => h j (Nat.lt_succ_of_lt hj)), h n (Nat.lt_succ_self n)]
theorem aj_fi_bt (c : Nat → Bool) (N : Nat → Int32) (y : Int32) (s : Nat) : ∀ n, bt (aj_fi c N y n) s = (bt y s || aj_or (fun r => c r && bt (N (16 + r)) s) n)
  | 0 => by simp [aj_fi, aj_or]
  | n + 1 => by
    have h := aj_fi_bt c N y s n
    cases hc : c n
    · simp [aj_fi, aj_or, hc, h]
    · simp [aj_fi, aj_or, hc, b_or, h, Bool.or_assoc]
theorem aj_fo_bt {G : aj_T} {N : Nat → Int32} (hG : aj_Rel N G) (v : Nat) {s : Nat} (hs : s < 8) : ∀ n, bt (aj_fo G N v n) s = aj_or (fun q => aj_or (fun r => aj_cnd G v q r && G 2 r s) 8) n
  | 0 => by
    show bt (nI 0) s = false
    exact (by decide +kernel : ∀ i, i < 32 → bt (nI 0) i = false) s (by omega)
  | n + 1 => by
    show bt (aj_fi (aj_cnd G v n) N (aj_fo G N v n) 8) s = (aj_or (fun q => aj_or (fun r => aj_cnd G v q r && G 2 r s) 8) n || aj_or (fun r => aj_cnd G v n r && G 2 r s) 8)
    rw [aj_fi_bt, aj_fo_bt hG v hs n]
    congr 1
    refine aj_or_congr 8 (fun r hr => ?_)
    rw [show 16 + r = 2 * 8 + r from rfl, (aj_Rel_iff N G).mp hG 2 r s (by decide) hr hs]
theorem aj_eb_bit {G : aj_T} {N : Nat → Int32} (hG : aj_Rel N G) (v : Nat) : ∀ s, s < 8 → (aj_fo G N v 8 >>> (nI s &&& 31)) &&& nI 1 = nI (aj_eb G v s).toNat := fun s hs => by
  rw [aj_bit _ (by omega), aj_fo_bt hG v hs 8]
  rfl

set_option maxHeartbeats 4000000 in
set_option maxRecDepth 100000 in
theorem aj_C_put_ok (l : Launch) {D : va_G} {ad : Nat → Nat} {d : ClassId} {G : aj_T} {S : Nat → Int32} (hap : aj_Ap 8 ad) {i a b : Nat} (h1 : i < 4) (h2 : a < 8) (h3 : b < 8) : aj_MW l yX0_put cX0_put 4 .int 1 D [(d, .int)] [.ref (ad 0), .int (nI i), .int (nI a), .int (nI b)] (aj_CC D ad d G S) (aj_PV (aj_putV G S i a b) (aj_CC D ad d (aj_putG G S i a b) (aj_putS G S i a b))) (aj_In 8 ad) := by
  refine aj_rw (Post := aj_PV (aj_putV G S i a b) (aj_CC D ad d (aj_putG G S i a b) (aj_putS G S i a b))) (pre := (aj_CC D ad d G S)) (aj_In 8 ad) RX0 (by decide) rfl (Nat.le_of_ble_eq_true rfl) (fun v H h => aj_nI rfl v) ?_
  intro p e s m args below meth c ls Q F hK hP hl hret
  obtain ⟨hx, hb, hml, hown, hts⟩ := id F
  have hS : va_S (aj_In 8 ad) s.heap s.heap [] := va_S.rf
  have hl : lv_has ls 4 [(0, .ref (ad 0)), (1, .int (nI i)), (2, .int (nI a)), (3, .int (nI b))] := hl
  obtain ⟨N, pb, dR, dT, dQ, uQ, uR, re, hG, hC, hP⟩ := hP
  refine lv_aload_n hx hb dX0_put_0 rfl (lv_at hl 0 rfl) ?_
  refine lv_iload_n hx hb dX0_put_1 rfl (lv_at hl 1 rfl) ?_
  refine lv_iload_n hx hb dX0_put_2 rfl (lv_at hl 2 rfl) ?_
  refine lv_iload_n hx hb dX0_put_3 rfl (lv_at hl 3 rfl) ?_
  refine aj_callR (As := [.int (nI i), .int (nI a), .int (nI b)]) (rest := []) F (aj_badRow l) aj_gX0_X0_badRow aj_hX0_badRow (aj_rmR (by decide) (by decide)) rfl rfl hK hP (va_recv (q0 := 0) hK hP (ci := 0) rfl rfl) rfl hl.1 rfl (Nat.le_of_ble_eq_true rfl) ⟨Nat.zero_le _, Nat.zero_le _⟩ dX0_put_4 ?_
  refine aj_ifeqB (tgt := 12) hx hb dX0_put_7 (by decide) (fun c_7 => ?_) (fun c_7 => ?_)
  ·
    refine lv_aload_n hx hb dX0_put_12 rfl (lv_at hl 0 rfl) ?_
    refine lv_iload_n hx hb dX0_put_13 rfl (lv_at hl 1 rfl) ?_
    refine lv_iload_n hx hb dX0_put_14 rfl (lv_at hl 2 rfl) ?_
    refine lv_iload_n hx hb dX0_put_15 rfl (lv_at hl 3 rfl) ?_
    refine aj_callR (As := [.int (nI i), .int (nI a), .int (nI b)]) (rest := []) F (aj_there l hG h1 h2 h3) aj_gX0_X0_there aj_hX0_there (aj_rmR (by decide) (by decide)) rfl rfl hK hP (va_recv (q0 := 0) hK hP (ci := 0) rfl rfl) rfl hl.1 rfl (Nat.le_of_ble_eq_true rfl) ⟨Nat.zero_le _, Nat.zero_le _⟩ dX0_put_16 ?_
    refine aj_ifeqB (tgt := 25) hx hb dX0_put_19 (by decide) (fun c_19 => ?_) (fun c_19 => ?_)
    ·
      have hg0 : ¬ G i a b = true := by rw [c_19]; decide
      refine lv_aload_n hx hb dX0_put_25 rfl (lv_at hl 0 rfl) ?_
      refine va_get (D := D) (ci := 0) (v := .ref (ad 2)) (C := RX0) (T := TX0) (N := 9) hx hb hts in_X0 hown hK hP 0 rfl rfl 1 (by decide) (hts _ q33) (fun _ h9 => h9) rfl dX0_put_26 ?_
      refine lv_iload_n hx hb dX0_put_29 rfl (lv_at hl 1 rfl) ?_
      refine aj_iald (y := S i) hx hb hK hP 2 0 rfl rfl (by omega) (by decide) rfl dX0_put_30 ?_
      refine lv_bipush (v := nI 10) hx hb dX0_put_31 (by decide) ?_
      refine lv_icmp_ne (tgt := 39) hx hb dX0_put_33 (by decide) (fun c_33 => ?_) (fun c_33 => ?_)
      ·
        refine lv_aload_n hx hb dX0_put_39 rfl (lv_at hl 0 rfl) ?_
        refine va_get (D := D) (ci := 0) (v := .ref (ad 1)) (C := RX0) (T := TX0) (N := 9) hx hb hts in_X0 hown hK hP 0 rfl rfl 0 (by decide) (hts _ q32) (fun _ h9 => h9) rfl dX0_put_40 ?_
        refine lv_iload_n hx hb dX0_put_43 rfl (lv_at hl 1 rfl) ?_
        refine lv_bipush (v := nI 8) hx hb dX0_put_44 (by decide) ?_
        refine aj_imul hx hb dX0_put_46 ?_
        refine lv_iload_n hx hb dX0_put_47 rfl (lv_at hl 2 rfl) ?_
        refine aj_iadd hx hb dX0_put_48 ?_
        refine lv_aload_n hx hb dX0_put_49 rfl (lv_at hl 0 rfl) ?_
        refine va_get (D := D) (ci := 0) (v := .ref (ad 1)) (C := RX0) (T := TX0) (N := 9) hx hb hts in_X0 hown hK hP 0 rfl rfl 0 (by decide) (hts _ q32) (fun _ h9 => h9) rfl dX0_put_50 ?_
        refine lv_iload_n hx hb dX0_put_53 rfl (lv_at hl 1 rfl) ?_
        refine lv_bipush (v := nI 8) hx hb dX0_put_54 (by decide) ?_
        refine aj_imul hx hb dX0_put_56 ?_
        refine lv_iload_n hx hb dX0_put_57 rfl (lv_at hl 2 rfl) ?_
        refine aj_iadd hx hb dX0_put_58 ?_
        refine aj_iald (y := N ((i * 8) + a)) hx hb hK hP 1 0 rfl rfl (by omega) (by decide) rfl dX0_put_59 ?_
        refine lv_iconst (v := nI 1) hx hb dX0_put_60 (by decide) ?_
        refine lv_iload_n hx hb dX0_put_61 rfl (lv_at hl 3 rfl) ?_
        refine lv_ishl hx hb dX0_put_62 ?_
        refine lv_ior hx hb dX0_put_63 ?_
        refine aj_iast hx hb hK hP (aj_cD hap) hS 1 0 rfl rfl (by omega) (by decide) dX0_put_64 (fun H locs hP hS => ?_)
        have hP : va_P D aj_cl (aj_cW ad d (upd N ((i * 8) + a) ((N ((i * 8) + a)) ||| ((nI 1) <<< ((nI b) &&& 31)))) S (nI pb.toNat) dR dT dQ uQ uR re) H := hP
        refine lv_aload_n hx hb dX0_put_65 rfl (lv_at hl 0 rfl) ?_
        refine va_get (D := D) (ci := 0) (v := .ref (ad 2)) (C := RX0) (T := TX0) (N := 9) hx hb hts in_X0 hown hK hP 0 rfl rfl 1 (by decide) (hts _ q33) (fun _ h9 => h9) rfl dX0_put_66 ?_
        refine lv_iload_n hx hb dX0_put_69 rfl (lv_at hl 1 rfl) ?_
        refine lv_aload_n hx hb dX0_put_70 rfl (lv_at hl 0 rfl) ?_
        refine va_get (D := D) (ci := 0) (v := .ref (ad 2)) (C := RX0) (T := TX0) (N := 9) hx hb hts in_X0 hown hK hP 0 rfl rfl 1 (by decide) (hts _ q33) (fun _ h9 => h9) rfl dX0_put_71 ?_
        refine lv_iload_n hx hb dX0_put_74 rfl (lv_at hl 1 rfl) ?_
        refine aj_iald (y := S i) hx hb hK hP 2 0 rfl rfl (by omega) (by decide) rfl dX0_put_75 ?_
        refine lv_iconst (v := nI 1) hx hb dX0_put_76 (by decide) ?_
        refine lv_iadd hx hb dX0_put_77 ?_
        refine aj_iast hx hb hK hP (aj_cD hap) hS 2 0 rfl rfl (by omega) (by decide) dX0_put_78 (fun H locs hP hS => ?_)
        have hP : va_P D aj_cl (aj_cW ad d (upd N ((i * 8) + a) ((N ((i * 8) + a)) ||| ((nI 1) <<< ((nI b) &&& 31)))) (upd S i ((S i) + (nI 1))) (nI pb.toNat) dR dT dQ uQ uR re) H := hP
        refine lv_aload_n hx hb dX0_put_79 rfl (lv_at hl 0 rfl) ?_
        refine lv_iconst (v := nI 0) hx hb dX0_put_80 (by decide) ?_
        refine va_put (D := D) (ci := 0) (v := .int (nI 0)) (ty := .boolean) (C := RX0) (T := TX0) (N := 9) hx hb hts in_X0 tyX0 tyX0_ok nmX0 hown hK hP (aj_cD hap) hS 0 rfl rfl 2 (by decide) (hts _ q34) (fun _ h9 => h9) rfl (by decide +kernel) rfl rfl (Nat.le_of_ble_eq_true rfl) dX0_put_81 (fun H locs hP _ hS => ?_)
        have hP : va_P D aj_cl (aj_cW ad d (upd N ((i * 8) + a) ((N ((i * 8) + a)) ||| ((nI 1) <<< ((nI b) &&& 31)))) (upd S i ((S i) + (nI 1))) (nI 0) dR dT dQ uQ uR re) H := hP
        refine lv_aload_n hx hb dX0_put_84 rfl (lv_at hl 0 rfl) ?_
        refine va_get (D := D) (ci := 0) (v := .ref (ad 2)) (C := RX0) (T := TX0) (N := 9) hx hb hts in_X0 hown hK hP 0 rfl rfl 1 (by decide) (hts _ q33) (fun _ h9 => h9) rfl dX0_put_85 ?_
        refine lv_iload_n hx hb dX0_put_88 rfl (lv_at hl 1 rfl) ?_
        refine aj_iald (y := S i + nI 1) hx hb hK hP 2 0 rfl rfl (by omega) (by decide) pk_us dX0_put_89 ?_
        exact hret (S i + nI 1) _ _ _ _ dX0_put_90 hS (⟨by rw [aj_putV, if_neg hg0, if_neg c_33], by rw [aj_putG, aj_putS, if_neg hg0, if_neg hg0, if_neg c_33, if_neg c_33]; exact ⟨_, false, dR, dT, dQ, uQ, uR, re, aj_Rel_put hG h1 h2 h3, fun h => (by cases h), hP⟩⟩)
      ·
        refine lv_bipush (v := (-2)) hx hb dX0_put_36 (by decide) ?_
        exact hret ((-2)) _ _ _ _ dX0_put_38 hS (⟨by simp [aj_putV, c_19, c_33], by rw [aj_putG, aj_putS, if_neg hg0, if_neg hg0, if_pos c_33, if_pos c_33]; exact ⟨N, pb, dR, dT, dQ, uQ, uR, re, hG, hC, hP⟩⟩)
    ·
      refine lv_bipush (v := (-4)) hx hb dX0_put_22 (by decide) ?_
      exact hret ((-4)) _ _ _ _ dX0_put_24 hS (⟨by simp [aj_putV, c_19], by simp only [aj_putG, aj_putS, c_19, if_true]; exact ⟨N, pb, dR, dT, dQ, uQ, uR, re, hG, hC, hP⟩⟩)
  ·
    rw [aj_bad_ok h1 h2 h3] at c_7; cases c_7

set_option maxHeartbeats 4000000 in
set_option maxRecDepth 100000 in
theorem aj_C_put_bad (l : Launch) {D : va_G} {ad : Nat → Nat} {d : ClassId} {G : aj_T} {S : Nat → Int32} (hap : aj_Ap 8 ad) {x y z : Int32} (h1 : aj_bad x y z = true) : aj_MW l yX0_put cX0_put 4 .int 1 D [(d, .int)] [.ref (ad 0), .int x, .int y, .int z] (aj_CC D ad d G S) (aj_PV ((-1)) (aj_CC D ad d G S)) (aj_In 8 ad) := by
  refine aj_rw (Post := aj_PV ((-1)) (aj_CC D ad d G S)) (pre := (aj_CC D ad d G S)) (aj_In 8 ad) RX0 (by decide) rfl (Nat.le_of_ble_eq_true rfl) (fun v H h => aj_nI rfl v) ?_
  intro p e s m args below meth c ls Q F hK hP hl hret
  obtain ⟨hx, hb, hml, hown, hts⟩ := id F
  have hS : va_S (aj_In 8 ad) s.heap s.heap [] := va_S.rf
  have hl : lv_has ls 4 [(0, .ref (ad 0)), (1, .int x), (2, .int y), (3, .int z)] := hl
  obtain ⟨N, pb, dR, dT, dQ, uQ, uR, re, hG, hC, hP⟩ := hP
  refine lv_aload_n hx hb dX0_put_0 rfl (lv_at hl 0 rfl) ?_
  refine lv_iload_n hx hb dX0_put_1 rfl (lv_at hl 1 rfl) ?_
  refine lv_iload_n hx hb dX0_put_2 rfl (lv_at hl 2 rfl) ?_
  refine lv_iload_n hx hb dX0_put_3 rfl (lv_at hl 3 rfl) ?_
  refine aj_callR (As := [.int x, .int y, .int z]) (rest := []) F (aj_badRow l) aj_gX0_X0_badRow aj_hX0_badRow (aj_rmR (by decide) (by decide)) rfl rfl hK hP (va_recv (q0 := 0) hK hP (ci := 0) rfl rfl) rfl hl.1 rfl (Nat.le_of_ble_eq_true rfl) ⟨Nat.zero_le _, Nat.zero_le _⟩ dX0_put_4 ?_
  refine aj_ifeqB (tgt := 12) hx hb dX0_put_7 (by decide) (fun c_7 => ?_) (fun c_7 => ?_)
  ·
    rw [h1] at c_7; cases c_7
  ·
    refine lv_iconst (v := (-1)) hx hb dX0_put_10 (by decide) ?_
    exact hret ((-1)) _ _ _ _ dX0_put_11 hS (⟨rfl, N, pb, dR, dT, dQ, uQ, uR, re, hG, hC, hP⟩)

set_option maxHeartbeats 4000000 in
set_option maxRecDepth 100000 in
theorem aj_C_drop_ok (l : Launch) {D : va_G} {ad : Nat → Nat} {d : ClassId} {G : aj_T} {S : Nat → Int32} (hap : aj_Ap 8 ad) {i a b : Nat} (h1 : i < 4) (h2 : a < 8) (h3 : b < 8) : aj_MW l yX0_drop cX0_drop 4 .int 1 D [(d, .int)] [.ref (ad 0), .int (nI i), .int (nI a), .int (nI b)] (aj_CC D ad d G S) (aj_PV (aj_dropV G S i a b) (aj_CC D ad d (aj_dropG G i a b) (aj_dropS G S i a b))) (aj_In 8 ad) := by
  refine aj_rw (Post := aj_PV (aj_dropV G S i a b) (aj_CC D ad d (aj_dropG G i a b) (aj_dropS G S i a b))) (pre := (aj_CC D ad d G S)) (aj_In 8 ad) RX0 (by decide) rfl (Nat.le_of_ble_eq_true rfl) (fun v H h => aj_nI rfl v) ?_
  intro p e s m args below meth c ls Q F hK hP hl hret
  obtain ⟨hx, hb, hml, hown, hts⟩ := id F
  have hS : va_S (aj_In 8 ad) s.heap s.heap [] := va_S.rf
  have hl : lv_has ls 4 [(0, .ref (ad 0)), (1, .int (nI i)), (2, .int (nI a)), (3, .int (nI b))] := hl
  obtain ⟨N, pb, dR, dT, dQ, uQ, uR, re, hG, hC, hP⟩ := hP
  refine lv_aload_n hx hb dX0_drop_0 rfl (lv_at hl 0 rfl) ?_
  refine lv_iload_n hx hb dX0_drop_1 rfl (lv_at hl 1 rfl) ?_
  refine lv_iload_n hx hb dX0_drop_2 rfl (lv_at hl 2 rfl) ?_
  refine lv_iload_n hx hb dX0_drop_3 rfl (lv_at hl 3 rfl) ?_
  refine aj_callR (As := [.int (nI i), .int (nI a), .int (nI b)]) (rest := []) F (aj_badRow l) aj_gX0_X0_badRow aj_hX0_badRow (aj_rmR (by decide) (by decide)) rfl rfl hK hP (va_recv (q0 := 0) hK hP (ci := 0) rfl rfl) rfl hl.1 rfl (Nat.le_of_ble_eq_true rfl) ⟨Nat.zero_le _, Nat.zero_le _⟩ dX0_drop_4 ?_
  refine aj_ifeqB (tgt := 12) hx hb dX0_drop_7 (by decide) (fun c_7 => ?_) (fun c_7 => ?_)
  ·
    refine lv_aload_n hx hb dX0_drop_12 rfl (lv_at hl 0 rfl) ?_
    refine lv_iload_n hx hb dX0_drop_13 rfl (lv_at hl 1 rfl) ?_
    refine lv_iload_n hx hb dX0_drop_14 rfl (lv_at hl 2 rfl) ?_
    refine lv_iload_n hx hb dX0_drop_15 rfl (lv_at hl 3 rfl) ?_
    refine aj_callR (As := [.int (nI i), .int (nI a), .int (nI b)]) (rest := []) F (aj_there l hG h1 h2 h3) aj_gX0_X0_there aj_hX0_there (aj_rmR (by decide) (by decide)) rfl rfl hK hP (va_recv (q0 := 0) hK hP (ci := 0) rfl rfl) rfl hl.1 rfl (Nat.le_of_ble_eq_true rfl) ⟨Nat.zero_le _, Nat.zero_le _⟩ dX0_drop_16 ?_
    refine aj_ifneB (tgt := 25) hx hb dX0_drop_19 (by decide) (fun c_19 => ?_) (fun c_19 => ?_)
    ·
      refine lv_aload_n hx hb dX0_drop_25 rfl (lv_at hl 0 rfl) ?_
      refine va_get (D := D) (ci := 0) (v := .ref (ad 1)) (C := RX0) (T := TX0) (N := 9) hx hb hts in_X0 hown hK hP 0 rfl rfl 0 (by decide) (hts _ q32) (fun _ h9 => h9) rfl dX0_drop_26 ?_
      refine lv_iload_n hx hb dX0_drop_29 rfl (lv_at hl 1 rfl) ?_
      refine lv_bipush (v := nI 8) hx hb dX0_drop_30 (by decide) ?_
      refine aj_imul hx hb dX0_drop_32 ?_
      refine lv_iload_n hx hb dX0_drop_33 rfl (lv_at hl 2 rfl) ?_
      refine aj_iadd hx hb dX0_drop_34 ?_
      refine lv_aload_n hx hb dX0_drop_35 rfl (lv_at hl 0 rfl) ?_
      refine va_get (D := D) (ci := 0) (v := .ref (ad 1)) (C := RX0) (T := TX0) (N := 9) hx hb hts in_X0 hown hK hP 0 rfl rfl 0 (by decide) (hts _ q32) (fun _ h9 => h9) rfl dX0_drop_36 ?_
      refine lv_iload_n hx hb dX0_drop_39 rfl (lv_at hl 1 rfl) ?_
      refine lv_bipush (v := nI 8) hx hb dX0_drop_40 (by decide) ?_
      refine aj_imul hx hb dX0_drop_42 ?_
      refine lv_iload_n hx hb dX0_drop_43 rfl (lv_at hl 2 rfl) ?_
      refine aj_iadd hx hb dX0_drop_44 ?_
      refine aj_iald (y := N ((i * 8) + a)) hx hb hK hP 1 0 rfl rfl (by omega) (by decide) rfl dX0_drop_45 ?_
      refine lv_iconst (v := nI 1) hx hb dX0_drop_46 (by decide) ?_
      refine lv_iload_n hx hb dX0_drop_47 rfl (lv_at hl 3 rfl) ?_
      refine lv_ishl hx hb dX0_drop_48 ?_
      refine lv_iconst (v := (-1)) hx hb dX0_drop_49 (by decide) ?_
      refine lv_ixor hx hb dX0_drop_50 ?_
      refine lv_iand hx hb dX0_drop_51 ?_
      refine aj_iast hx hb hK hP (aj_cD hap) hS 1 0 rfl rfl (by omega) (by decide) dX0_drop_52 (fun H locs hP hS => ?_)
      have hP : va_P D aj_cl (aj_cW ad d (upd N ((i * 8) + a) ((N ((i * 8) + a)) &&& (((nI 1) <<< ((nI b) &&& 31)) ^^^ (-1)))) S (nI pb.toNat) dR dT dQ uQ uR re) H := hP
      refine lv_aload_n hx hb dX0_drop_53 rfl (lv_at hl 0 rfl) ?_
      refine va_get (D := D) (ci := 0) (v := .ref (ad 2)) (C := RX0) (T := TX0) (N := 9) hx hb hts in_X0 hown hK hP 0 rfl rfl 1 (by decide) (hts _ q33) (fun _ h9 => h9) rfl dX0_drop_54 ?_
      refine lv_iload_n hx hb dX0_drop_57 rfl (lv_at hl 1 rfl) ?_
      refine lv_aload_n hx hb dX0_drop_58 rfl (lv_at hl 0 rfl) ?_
      refine va_get (D := D) (ci := 0) (v := .ref (ad 2)) (C := RX0) (T := TX0) (N := 9) hx hb hts in_X0 hown hK hP 0 rfl rfl 1 (by decide) (hts _ q33) (fun _ h9 => h9) rfl dX0_drop_59 ?_
      refine lv_iload_n hx hb dX0_drop_62 rfl (lv_at hl 1 rfl) ?_
      refine aj_iald (y := S i) hx hb hK hP 2 0 rfl rfl (by omega) (by decide) rfl dX0_drop_63 ?_
      refine lv_iconst (v := nI 1) hx hb dX0_drop_64 (by decide) ?_
      refine lv_isub hx hb dX0_drop_65 ?_
      refine aj_iast hx hb hK hP (aj_cD hap) hS 2 0 rfl rfl (by omega) (by decide) dX0_drop_66 (fun H locs hP hS => ?_)
      have hP : va_P D aj_cl (aj_cW ad d (upd N ((i * 8) + a) ((N ((i * 8) + a)) &&& (((nI 1) <<< ((nI b) &&& 31)) ^^^ (-1)))) (upd S i ((S i) - (nI 1))) (nI pb.toNat) dR dT dQ uQ uR re) H := hP
      refine lv_aload_n hx hb dX0_drop_67 rfl (lv_at hl 0 rfl) ?_
      refine lv_iconst (v := nI 0) hx hb dX0_drop_68 (by decide) ?_
      refine va_put (D := D) (ci := 0) (v := .int (nI 0)) (ty := .boolean) (C := RX0) (T := TX0) (N := 9) hx hb hts in_X0 tyX0 tyX0_ok nmX0 hown hK hP (aj_cD hap) hS 0 rfl rfl 2 (by decide) (hts _ q34) (fun _ h9 => h9) rfl (by decide +kernel) rfl rfl (Nat.le_of_ble_eq_true rfl) dX0_drop_69 (fun H locs hP _ hS => ?_)
      have hP : va_P D aj_cl (aj_cW ad d (upd N ((i * 8) + a) ((N ((i * 8) + a)) &&& (((nI 1) <<< ((nI b) &&& 31)) ^^^ (-1)))) (upd S i ((S i) - (nI 1))) (nI 0) dR dT dQ uQ uR re) H := hP
      refine lv_aload_n hx hb dX0_drop_72 rfl (lv_at hl 0 rfl) ?_
      refine va_get (D := D) (ci := 0) (v := .ref (ad 2)) (C := RX0) (T := TX0) (N := 9) hx hb hts in_X0 hown hK hP 0 rfl rfl 1 (by decide) (hts _ q33) (fun _ h9 => h9) rfl dX0_drop_73 ?_
      refine lv_iload_n hx hb dX0_drop_76 rfl (lv_at hl 1 rfl) ?_
      refine aj_iald (y := S i - nI 1) hx hb hK hP 2 0 rfl rfl (by omega) (by decide) pk_us dX0_drop_77 ?_
      exact hret (S i - nI 1) _ _ _ _ dX0_drop_78 hS (⟨by rw [aj_dropV, if_pos c_19], by rw [aj_dropG, aj_dropS, if_pos c_19, if_pos c_19]; exact ⟨_, false, dR, dT, dQ, uQ, uR, re, aj_Rel_drop hG h1 h2 h3, fun h => (by cases h), hP⟩⟩)
    ·
      have hg0 : ¬ G i a b = true := by rw [c_19]; decide
      refine lv_bipush (v := (-4)) hx hb dX0_drop_22 (by decide) ?_
      exact hret ((-4)) _ _ _ _ dX0_drop_24 hS (⟨by simp [aj_dropV, c_19], by rw [aj_dropG, aj_dropS, if_neg hg0, if_neg hg0]; exact ⟨N, pb, dR, dT, dQ, uQ, uR, re, hG, hC, hP⟩⟩)
  ·
    rw [aj_bad_ok h1 h2 h3] at c_7; cases c_7

set_option maxHeartbeats 4000000 in
set_option maxRecDepth 100000 in
theorem aj_C_drop_bad (l : Launch) {D : va_G} {ad : Nat → Nat} {d : ClassId} {G : aj_T} {S : Nat → Int32} (hap : aj_Ap 8 ad) {x y z : Int32} (h1 : aj_bad x y z = true) : aj_MW l yX0_drop cX0_drop 4 .int 1 D [(d, .int)] [.ref (ad 0), .int x, .int y, .int z] (aj_CC D ad d G S) (aj_PV ((-1)) (aj_CC D ad d G S)) (aj_In 8 ad) := by
  refine aj_rw (Post := aj_PV ((-1)) (aj_CC D ad d G S)) (pre := (aj_CC D ad d G S)) (aj_In 8 ad) RX0 (by decide) rfl (Nat.le_of_ble_eq_true rfl) (fun v H h => aj_nI rfl v) ?_
  intro p e s m args below meth c ls Q F hK hP hl hret
  obtain ⟨hx, hb, hml, hown, hts⟩ := id F
  have hS : va_S (aj_In 8 ad) s.heap s.heap [] := va_S.rf
  have hl : lv_has ls 4 [(0, .ref (ad 0)), (1, .int x), (2, .int y), (3, .int z)] := hl
  obtain ⟨N, pb, dR, dT, dQ, uQ, uR, re, hG, hC, hP⟩ := hP
  refine lv_aload_n hx hb dX0_drop_0 rfl (lv_at hl 0 rfl) ?_
  refine lv_iload_n hx hb dX0_drop_1 rfl (lv_at hl 1 rfl) ?_
  refine lv_iload_n hx hb dX0_drop_2 rfl (lv_at hl 2 rfl) ?_
  refine lv_iload_n hx hb dX0_drop_3 rfl (lv_at hl 3 rfl) ?_
  refine aj_callR (As := [.int x, .int y, .int z]) (rest := []) F (aj_badRow l) aj_gX0_X0_badRow aj_hX0_badRow (aj_rmR (by decide) (by decide)) rfl rfl hK hP (va_recv (q0 := 0) hK hP (ci := 0) rfl rfl) rfl hl.1 rfl (Nat.le_of_ble_eq_true rfl) ⟨Nat.zero_le _, Nat.zero_le _⟩ dX0_drop_4 ?_
  refine aj_ifeqB (tgt := 12) hx hb dX0_drop_7 (by decide) (fun c_7 => ?_) (fun c_7 => ?_)
  ·
    rw [h1] at c_7; cases c_7
  ·
    refine lv_iconst (v := (-1)) hx hb dX0_drop_10 (by decide) ?_
    exact hret ((-1)) _ _ _ _ dX0_drop_11 hS (⟨rfl, N, pb, dR, dT, dQ, uQ, uR, re, hG, hC, hP⟩)

set_option maxHeartbeats 4000000 in
set_option maxRecDepth 100000 in
theorem aj_C_clear_ok (l : Launch) {D : va_G} {ad : Nat → Nat} {d : ClassId} {G : aj_T} {S : Nat → Int32} (hap : aj_Ap 8 ad) {i : Nat} (h1 : i < 4) : aj_MW l yX0_clear cX0_clear 4 .int 0 D [(d, .int)] [.ref (ad 0), .int (nI i)] (aj_CC D ad d G S) (aj_PV (S i) (aj_CC D ad d (aj_clrG G i) (upd S i (nI 0)))) (aj_In 8 ad) := by
  refine aj_rw (Post := aj_PV (S i) (aj_CC D ad d (aj_clrG G i) (upd S i (nI 0)))) (pre := (aj_CC D ad d G S)) (aj_In 8 ad) RX0 (by decide) rfl (Nat.le_of_ble_eq_true rfl) (fun v H h => aj_nI rfl v) ?_
  intro p e s m args below meth c ls Q F hK hP hl hret
  obtain ⟨hx, hb, hml, hown, hts⟩ := id F
  have hS : va_S (aj_In 8 ad) s.heap s.heap [] := va_S.rf
  have hl : lv_has ls 4 [(0, .ref (ad 0)), (1, .int (nI i))] := hl
  obtain ⟨N, pb, dR, dT, dQ, uQ, uR, re, hG, hC, hP⟩ := hP
  refine lv_iload_n hx hb dX0_clear_0 rfl (lv_at hl 1 rfl) ?_
  refine aj_iflt (tgt := 9) hx hb (by omega) dX0_clear_1 (by decide) ?_
  refine lv_iload_n hx hb dX0_clear_4 rfl (lv_at hl 1 rfl) ?_
  refine lv_iconst (v := nI 4) hx hb dX0_clear_5 (by decide) ?_
  refine aj_lt (tgt := 11) hx hb (by omega) (by decide) dX0_clear_6 (by decide) (fun c_6 => ?_) (fun c_6 => ?_)
  ·
    refine lv_aload_n hx hb dX0_clear_11 rfl (lv_at hl 0 rfl) ?_
    refine va_get (D := D) (ci := 0) (v := .ref (ad 2)) (C := RX0) (T := TX0) (N := 9) hx hb hts in_X0 hown hK hP 0 rfl rfl 1 (by decide) (hts _ q33) (fun _ h9 => h9) rfl dX0_clear_12 ?_
    refine lv_iload_n hx hb dX0_clear_15 rfl (lv_at hl 1 rfl) ?_
    refine aj_iald (y := S i) hx hb hK hP 2 0 rfl rfl (by omega) (by decide) rfl dX0_clear_16 ?_
    refine lv_istore_n (lv' := [(2, .int (S i)), (0, .ref (ad 0)), (1, .int (nI i))]) hx hb dX0_clear_17 rfl hl (by decide) rfl (fun ls hl => ?_)
    refine lv_iconst (v := nI 0) hx hb dX0_clear_18 (by decide) ?_
    refine lv_istore_n (lv' := [(3, .int (nI 0)), (2, .int (S i)), (0, .ref (ad 0)), (1, .int (nI i))]) hx hb dX0_clear_19 rfl hl (by decide) rfl (fun ls hl => ?_)
    have L_20 : ∀ (n_20 : Nat), ∀ (a : Nat) (N1 : Nat → Int32), a ≤ 8 → (∀ j, j < a → N1 (i * 8 + j) = nI 0) → (∀ k, k < i * 8 ∨ i * 8 + 8 ≤ k → N1 k = N k) → 9 ≤ a + n_20 → ∀ (H : Heap) (locs : List Loc), va_P D aj_cl (aj_cW ad d N1 S (nI pb.toNat) dR dT dQ uQ uR re) H → va_S (aj_In 8 ad) s.heap H locs → ∀ (ls : Array Slot), lv_has ls 4 [(0, .ref (ad 0)), (1, .int (nI i)), (2, .int (S i)), (3, .int (nI a))] → W p l e (aj_rm 0) s m args below meth c H locs 0 0 Q (F0 m 20 ls []) := by
      intro n_20
      induction n_20 with
      | zero =>
        intro a N1 ha hz hk hfu H locs hP hS ls hl
        exfalso; omega
      | succ n_20 ih_20 =>
        intro a N1 ha hz hk hfu H locs hP hS ls hl
        refine lv_iload_n hx hb dX0_clear_20 rfl (lv_at hl 3 rfl) ?_
        refine lv_bipush (v := nI 8) hx hb dX0_clear_21 (by decide) ?_
        refine aj_ge (tgt := 44) hx hb (by omega) (by decide) dX0_clear_23 (by decide) (fun c_23 => ?_) (fun c_23 => ?_)
        ·
          refine lv_aload_n hx hb dX0_clear_44 rfl (lv_at hl 0 rfl) ?_
          refine va_get (D := D) (ci := 0) (v := .ref (ad 2)) (C := RX0) (T := TX0) (N := 9) hx hb hts in_X0 hown hK hP 0 rfl rfl 1 (by decide) (hts _ q33) (fun _ h9 => h9) rfl dX0_clear_45 ?_
          refine lv_iload_n hx hb dX0_clear_48 rfl (lv_at hl 1 rfl) ?_
          refine lv_iconst (v := nI 0) hx hb dX0_clear_49 (by decide) ?_
          refine aj_iast hx hb hK hP (aj_cD hap) hS 2 0 rfl rfl (by omega) (by decide) dX0_clear_50 (fun H locs hP hS => ?_)
          have hP : va_P D aj_cl (aj_cW ad d N1 (upd S i (nI 0)) (nI pb.toNat) dR dT dQ uQ uR re) H := hP
          refine lv_aload_n hx hb dX0_clear_51 rfl (lv_at hl 0 rfl) ?_
          refine lv_iconst (v := nI 0) hx hb dX0_clear_52 (by decide) ?_
          refine va_put (D := D) (ci := 0) (v := .int (nI 0)) (ty := .boolean) (C := RX0) (T := TX0) (N := 9) hx hb hts in_X0 tyX0 tyX0_ok nmX0 hown hK hP (aj_cD hap) hS 0 rfl rfl 2 (by decide) (hts _ q34) (fun _ h9 => h9) rfl (by decide +kernel) rfl rfl (Nat.le_of_ble_eq_true rfl) dX0_clear_53 (fun H locs hP _ hS => ?_)
          have hP : va_P D aj_cl (aj_cW ad d N1 (upd S i (nI 0)) (nI 0) dR dT dQ uQ uR re) H := hP
          refine lv_iload_n hx hb dX0_clear_56 rfl (lv_at hl 2 rfl) ?_
          exact hret (S i) _ _ _ _ dX0_clear_57 hS (⟨rfl, N1, false, dR, dT, dQ, uQ, uR, re, aj_Rel_clr hG h1 (fun a9 h9 => hz a9 (by omega)) hk, fun h => (by cases h), hP⟩)
        ·
          refine lv_aload_n hx hb dX0_clear_26 rfl (lv_at hl 0 rfl) ?_
          refine va_get (D := D) (ci := 0) (v := .ref (ad 1)) (C := RX0) (T := TX0) (N := 9) hx hb hts in_X0 hown hK hP 0 rfl rfl 0 (by decide) (hts _ q32) (fun _ h9 => h9) rfl dX0_clear_27 ?_
          refine lv_iload_n hx hb dX0_clear_30 rfl (lv_at hl 1 rfl) ?_
          refine lv_bipush (v := nI 8) hx hb dX0_clear_31 (by decide) ?_
          refine aj_imul hx hb dX0_clear_33 ?_
          refine lv_iload_n hx hb dX0_clear_34 rfl (lv_at hl 3 rfl) ?_
          refine aj_iadd hx hb dX0_clear_35 ?_
          refine lv_iconst (v := nI 0) hx hb dX0_clear_36 (by decide) ?_
          refine aj_iast hx hb hK hP (aj_cD hap) hS 1 0 rfl rfl (by omega) (by decide) dX0_clear_37 (fun H locs hP hS => ?_)
          have hP : va_P D aj_cl (aj_cW ad d (upd N1 ((i * 8) + a) (nI 0)) S (nI pb.toNat) dR dT dQ uQ uR re) H := hP
          refine lv_iinc (v := nI (a + 1)) (lv' := [(3, .int (nI (a + 1))), (0, .ref (ad 0)), (1, .int (nI i)), (2, .int (S i))]) hx hb dX0_clear_38 hl (k := 3) rfl (nI_add a 1) (by decide) rfl (fun ls hl => ?_)
          refine lv_goto (tgt := 20) hx hb dX0_clear_41 (by decide) ?_
          exact ih_20 (a + 1) (upd N1 ((i * 8) + a) (nI 0)) (by omega) (by intro j hj; by_cases e : j = a; (subst e; simp [upd]); have e2 : ¬ i * 8 + j = i * 8 + a := (by omega); simpa [upd, e] using hz j (by omega)) (by intro k hk9; have e : ¬ k = i * 8 + a := (by omega); simpa [upd, e] using hk k hk9) (by omega) _ _ hP hS _ (lv_sub hl [1, 2, 3, 0] rfl)
    exact L_20 9 0 N (by omega) (by intro j hj; omega) (fun _ _ => rfl) (by omega) _ _ hP hS _ (lv_sub hl [2, 3, 1, 0] rfl)
  ·
    exfalso; omega

set_option maxHeartbeats 4000000 in
set_option maxRecDepth 100000 in
theorem aj_C_clear_bad (l : Launch) {D : va_G} {ad : Nat → Nat} {d : ClassId} {G : aj_T} {S : Nat → Int32} (hap : aj_Ap 8 ad) {x : Int32} (h1 : aj_out 4 x = true) : aj_MW l yX0_clear cX0_clear 4 .int 0 D [(d, .int)] [.ref (ad 0), .int x] (aj_CC D ad d G S) (aj_PV ((-1)) (aj_CC D ad d G S)) (aj_In 8 ad) := by
  refine aj_rw (Post := aj_PV ((-1)) (aj_CC D ad d G S)) (pre := (aj_CC D ad d G S)) (aj_In 8 ad) RX0 (by decide) rfl (Nat.le_of_ble_eq_true rfl) (fun v H h => aj_nI rfl v) ?_
  intro p e s m args below meth c ls Q F hK hP hl hret
  obtain ⟨hx, hb, hml, hown, hts⟩ := id F
  have hS : va_S (aj_In 8 ad) s.heap s.heap [] := va_S.rf
  have hl : lv_has ls 4 [(0, .ref (ad 0)), (1, .int x)] := hl
  obtain ⟨N, pb, dR, dT, dQ, uQ, uR, re, hG, hC, hP⟩ := hP
  refine lv_iload_n hx hb dX0_clear_0 rfl (lv_at hl 1 rfl) ?_
  refine lv_if_lt (tgt := 9) hx hb dX0_clear_1 (by decide) (fun c_1 => ?_) (fun c_1 => ?_)
  ·
    refine lv_iconst (v := (-1)) hx hb dX0_clear_9 (by decide) ?_
    exact hret ((-1)) _ _ _ _ dX0_clear_10 hS (⟨rfl, N, pb, dR, dT, dQ, uQ, uR, re, hG, hC, hP⟩)
  ·
    refine lv_iload_n hx hb dX0_clear_4 rfl (lv_at hl 1 rfl) ?_
    refine lv_iconst (v := nI 4) hx hb dX0_clear_5 (by decide) ?_
    refine lv_icmp_lt (tgt := 11) hx hb dX0_clear_6 (by decide) (fun c_6 => ?_) (fun c_6 => ?_)
    ·
      exact absurd c_6 (aj_out_no h1 c_1)
    ·
      refine lv_iconst (v := (-1)) hx hb dX0_clear_9 (by decide) ?_
      exact hret ((-1)) _ _ _ _ dX0_clear_10 hS (⟨rfl, N, pb, dR, dT, dQ, uQ, uR, re, hG, hC, hP⟩)

set_option maxHeartbeats 4000000 in
set_option maxRecDepth 100000 in
theorem aj_C_count (l : Launch) {D : va_G} {ad : Nat → Nat} {d : ClassId} {G : aj_T} {S : Nat → Int32} (hap : aj_Ap 8 ad)  : aj_MW l yX0_count cX0_count 3 .int 2 D [(d, .int)] [.ref (ad 0)] (aj_CC D ad d G S) (aj_PV (nI (aj_cnt G)) (aj_CF D ad d G S)) (aj_In 8 ad) := by
  refine aj_rw (Post := aj_PV (nI (aj_cnt G)) (aj_CF D ad d G S)) (pre := (aj_CC D ad d G S)) (aj_In 8 ad) RX0 (by decide) rfl (Nat.le_of_ble_eq_true rfl) (fun v H h => aj_nI rfl v) ?_
  intro p e s m args below meth c ls Q F hK hP hl hret
  obtain ⟨hx, hb, hml, hown, hts⟩ := id F
  have hS : va_S (aj_In 8 ad) s.heap s.heap [] := va_S.rf
  have hl : lv_has ls 3 [(0, .ref (ad 0))] := hl
  obtain ⟨N, pb, dR, dT, dQ, uQ, uR, re, hG, hC, hP⟩ := hP
  refine lv_aload_n hx hb dX0_count_0 rfl (lv_at hl 0 rfl) ?_
  refine aj_callV (A := aj_In 8 ad) (As := []) (rest := []) F (aj_pass l hap hG hC) aj_gX0_X0_pass aj_hX0_pass (aj_rmR (by decide) (by decide)) rfl rfl hK hP (va_recv (q0 := 0) hK hP (ci := 0) rfl rfl) rfl hl.1 rfl (Nat.le_of_ble_eq_true rfl) ⟨Nat.zero_le _, Nat.zero_le _⟩ dX0_count_1 hS (fun _ h => h) (fun H locs hB _ _ hS => ?_)
  obtain ⟨dR, dT, dQ, uQ, uR, hC, hP⟩ := hB
  refine lv_iconst (v := nI 0) hx hb dX0_count_4 (by decide) ?_
  refine lv_istore_n (lv' := [(1, .int (nI 0)), (0, .ref (ad 0))]) hx hb dX0_count_5 rfl hl (by decide) rfl (fun ls hl => ?_)
  refine lv_iconst (v := nI 0) hx hb dX0_count_6 (by decide) ?_
  refine lv_istore_n (lv' := [(2, .int (nI 0)), (1, .int (nI 0)), (0, .ref (ad 0))]) hx hb dX0_count_7 rfl hl (by decide) rfl (fun ls hl => ?_)
  have L_8 : ∀ (n_8 : Nat), ∀ (q : Nat) (y : Int32), y = nI (aj_sm (fun q => aj_uQ G q * aj_be G q) q) → q ≤ 8 → 9 ≤ q + n_8 → ∀ (H : Heap) (locs : List Loc), va_P D aj_cl (aj_cW ad d N S (nI 1) dR dT dQ uQ uR re) H → va_S (aj_In 8 ad) s.heap H locs → ∀ (ls : Array Slot), lv_has ls 3 [(0, .ref (ad 0)), (1, .int y), (2, .int (nI q))] → W p l e (aj_rm 2) s m args below meth c H locs 0 0 Q (F0 m 8 ls []) := by
    intro n_8
    induction n_8 with
    | zero =>
      intro q y e_y hq hfu H locs hP hS ls hl
      exfalso; omega
    | succ n_8 ih_8 =>
      intro q y e_y hq hfu H locs hP hS ls hl
      subst e_y
      refine lv_iload_n hx hb dX0_count_8 rfl (lv_at hl 2 rfl) ?_
      refine lv_bipush (v := nI 8) hx hb dX0_count_9 (by decide) ?_
      refine aj_ge (tgt := 35) hx hb (by omega) (by decide) dX0_count_11 (by decide) (fun c_11 => ?_) (fun c_11 => ?_)
      ·
        refine lv_iload_n hx hb dX0_count_35 rfl (lv_at hl 1 rfl) ?_
        exact hret (nI (aj_sm (fun q => aj_uQ G q * aj_be G q) q)) _ _ _ _ dX0_count_36 hS (⟨by rw [show q = 8 by omega]; rfl, N, dR, dT, dQ, uQ, uR, re, hG, hC, hP⟩)
      ·
        refine lv_iload_n hx hb dX0_count_14 rfl (lv_at hl 1 rfl) ?_
        refine lv_aload_n hx hb dX0_count_15 rfl (lv_at hl 0 rfl) ?_
        refine va_get (D := D) (ci := 0) (v := .ref (ad 6)) (C := RX0) (T := TX0) (N := 9) hx hb hts in_X0 hown hK hP 0 rfl rfl 6 (by decide) (hts _ q38) (fun _ h9 => h9) rfl dX0_count_16 ?_
        refine lv_iload_n hx hb dX0_count_19 rfl (lv_at hl 2 rfl) ?_
        refine aj_iald (y := nI (aj_uQ G q)) hx hb hK hP 6 0 rfl rfl (by omega) (by decide) (hC.q (by omega)) dX0_count_20 ?_
        refine lv_aload_n hx hb dX0_count_21 rfl (lv_at hl 0 rfl) ?_
        refine lv_iload_n hx hb dX0_count_22 rfl (lv_at hl 2 rfl) ?_
        refine aj_callR (As := [.int (nI q)]) (rest := [.int (nI (aj_uQ G q)), .int (nI (aj_sm (fun q => aj_uQ G q * aj_be G q) q))]) F (aj_behind l hC (by omega)) aj_gX0_X0_behind aj_hX0_behind (aj_rmR (by decide) (by decide)) rfl rfl hK hP (va_recv (q0 := 0) hK hP (ci := 0) rfl rfl) rfl hl.1 rfl (Nat.le_of_ble_eq_true rfl) ⟨Nat.zero_le _, Nat.zero_le _⟩ dX0_count_23 ?_
        refine aj_imul hx hb dX0_count_26 ?_
        refine aj_iadd hx hb dX0_count_27 ?_
        refine lv_istore_n (lv' := [(1, .int (nI ((aj_sm (fun q => aj_uQ G q * aj_be G q) q) + ((aj_uQ G q) * (aj_be G q))))), (0, .ref (ad 0)), (2, .int (nI q))]) hx hb dX0_count_28 rfl hl (by decide) rfl (fun ls hl => ?_)
        refine lv_iinc (v := nI (q + 1)) (lv' := [(2, .int (nI (q + 1))), (1, .int (nI ((aj_sm (fun q => aj_uQ G q * aj_be G q) q) + ((aj_uQ G q) * (aj_be G q))))), (0, .ref (ad 0))]) hx hb dX0_count_29 hl (k := 2) rfl (nI_add q 1) (by decide) rfl (fun ls hl => ?_)
        refine lv_goto (tgt := 8) hx hb dX0_count_32 (by decide) ?_
        exact ih_8 (q + 1) (nI ((aj_sm (fun q => aj_uQ G q * aj_be G q) q) + ((aj_uQ G q) * (aj_be G q)))) rfl (by omega) (by omega) _ _ hP hS _ (lv_sub hl [2, 1, 0] rfl)
  exact L_8 9 0 (nI 0) rfl (by omega) (by omega) _ _ hP hS _ (lv_sub hl [2, 1, 0] rfl)

set_option maxHeartbeats 4000000 in
set_option maxRecDepth 100000 in
theorem aj_C_useful_ok (l : Launch) {D : va_G} {ad : Nat → Nat} {d : ClassId} {G : aj_T} {S : Nat → Int32} (hap : aj_Ap 8 ad) {i : Nat} (h1 : i < 4) : aj_MW l yX0_useful cX0_useful 6 .int 2 D [(d, .int)] [.ref (ad 0), .int (nI i)] (aj_CC D ad d G S) (aj_PV (nI (aj_usV G i)) (aj_CC D ad d G S)) (aj_In 8 ad) := by
  refine aj_rw (Post := aj_PV (nI (aj_usV G i)) (aj_CC D ad d G S)) (pre := (aj_CC D ad d G S)) (aj_In 8 ad) RX0 (by decide) rfl (Nat.le_of_ble_eq_true rfl) (fun v H h => aj_nI rfl v) ?_
  intro p e s m args below meth c ls Q F hK hP hl hret
  obtain ⟨hx, hb, hml, hown, hts⟩ := id F
  have hS : va_S (aj_In 8 ad) s.heap s.heap [] := va_S.rf
  have hl : lv_has ls 6 [(0, .ref (ad 0)), (1, .int (nI i))] := hl
  obtain ⟨N, pb, dR, dT, dQ, uQ, uR, re, hG, hC, hP⟩ := hP
  refine lv_iload_n hx hb dX0_useful_0 rfl (lv_at hl 1 rfl) ?_
  refine aj_iflt (tgt := 9) hx hb (by omega) dX0_useful_1 (by decide) ?_
  refine lv_iload_n hx hb dX0_useful_4 rfl (lv_at hl 1 rfl) ?_
  refine lv_iconst (v := nI 4) hx hb dX0_useful_5 (by decide) ?_
  refine aj_lt (tgt := 11) hx hb (by omega) (by decide) dX0_useful_6 (by decide) (fun c_6 => ?_) (fun c_6 => ?_)
  ·
    refine lv_aload_n hx hb dX0_useful_11 rfl (lv_at hl 0 rfl) ?_
    refine aj_callV (A := aj_In 8 ad) (As := []) (rest := []) F (aj_pass l hap hG hC) aj_gX0_X0_pass aj_hX0_pass (aj_rmR (by decide) (by decide)) rfl rfl hK hP (va_recv (q0 := 0) hK hP (ci := 0) rfl rfl) rfl hl.1 rfl (Nat.le_of_ble_eq_true rfl) ⟨Nat.zero_le _, Nat.zero_le _⟩ dX0_useful_12 hS (fun _ h => h) (fun H locs hB _ _ hS => ?_)
    obtain ⟨dR, dT, dQ, uQ, uR, hC, hP⟩ := hB
    refine lv_iconst (v := nI 0) hx hb dX0_useful_15 (by decide) ?_
    refine lv_istore_n (lv' := [(2, .int (nI 0)), (0, .ref (ad 0)), (1, .int (nI i))]) hx hb dX0_useful_16 rfl hl (by decide) rfl (fun ls hl => ?_)
    refine lv_iconst (v := nI 0) hx hb dX0_useful_17 (by decide) ?_
    refine lv_istore_n (lv' := [(3, .int (nI 0)), (2, .int (nI 0)), (0, .ref (ad 0)), (1, .int (nI i))]) hx hb dX0_useful_18 rfl hl (by decide) rfl (fun ls hl => ?_)
    have L_19 : ∀ (n_19 : Nat), ∀ (a : Nat) (y : Int32), y = nI (aj_sm (aj_us1 G i) a) → a ≤ 8 → 9 ≤ a + n_19 → ∀ (H : Heap) (locs : List Loc), va_P D aj_cl (aj_cW ad d N S (nI 1) dR dT dQ uQ uR re) H → va_S (aj_In 8 ad) s.heap H locs → ∀ (ls : Array Slot), lv_has ls 6 [(0, .ref (ad 0)), (1, .int (nI i)), (2, .int y), (3, .int (nI a))] → W p l e (aj_rm 2) s m args below meth c H locs 0 0 Q (F0 m 19 ls []) := by
      intro n_19
      induction n_19 with
      | zero =>
        intro a y e_y ha hfu H locs hP hS ls hl
        exfalso; omega
      | succ n_19 ih_19 =>
        intro a y e_y ha hfu H locs hP hS ls hl
        subst e_y
        refine lv_iload_n hx hb dX0_useful_19 rfl (lv_at hl 3 rfl) ?_
        refine lv_bipush (v := nI 8) hx hb dX0_useful_20 (by decide) ?_
        refine aj_ge (tgt := 89) hx hb (by omega) (by decide) dX0_useful_22 (by decide) (fun c_22 => ?_) (fun c_22 => ?_)
        ·
          refine lv_iload_n hx hb dX0_useful_89 rfl (lv_at hl 2 rfl) ?_
          exact hret (nI (aj_sm (aj_us1 G i) a)) _ _ _ _ dX0_useful_90 hS (⟨by rw [show a = 8 by omega]; rfl, N, true, dR, dT, dQ, uQ, uR, re, hG, fun _ => hC, hP⟩)
        ·
          refine lv_iconst (v := nI 0) hx hb dX0_useful_25 (by decide) ?_
          refine lv_istore (lv' := [(4, .int (nI 0)), (0, .ref (ad 0)), (1, .int (nI i)), (2, .int (nI (aj_sm (aj_us1 G i) a))), (3, .int (nI a))]) hx hb dX0_useful_26 hl (by decide) rfl (fun ls hl => ?_)
          have L_28 : ∀ (n_28 : Nat), ∀ (b : Nat) (y : Int32), y = nI (aj_sm (aj_us1 G i) a + aj_sm (aj_us2 G i a) b) → b ≤ 8 → 9 ≤ b + n_28 → ∀ (H : Heap) (locs : List Loc), va_P D aj_cl (aj_cW ad d N S (nI 1) dR dT dQ uQ uR re) H → va_S (aj_In 8 ad) s.heap H locs → ∀ (ls : Array Slot), lv_has ls 6 [(0, .ref (ad 0)), (1, .int (nI i)), (2, .int y), (3, .int (nI a)), (4, .int (nI b))] → W p l e (aj_rm 2) s m args below meth c H locs 0 0 Q (F0 m 28 ls []) := by
            intro n_28
            induction n_28 with
            | zero =>
              intro b y e_y hb9 hfu H locs hP hS ls hl
              exfalso; omega
            | succ n_28 ih_28 =>
              intro b y e_y hb9 hfu H locs hP hS ls hl
              subst e_y
              refine lv_iload hx hb dX0_useful_28 (lv_at hl 4 rfl) ?_
              refine lv_bipush (v := nI 8) hx hb dX0_useful_30 (by decide) ?_
              refine aj_ge (tgt := 83) hx hb (by omega) (by decide) dX0_useful_32 (by decide) (fun c_32 => ?_) (fun c_32 => ?_)
              ·
                refine lv_iinc (v := nI (a + 1)) (lv' := [(3, .int (nI (a + 1))), (0, .ref (ad 0)), (1, .int (nI i)), (2, .int (nI (aj_sm (aj_us1 G i) a + aj_sm (aj_us2 G i a) b))), (4, .int (nI b))]) hx hb dX0_useful_83 hl (k := 3) rfl (nI_add a 1) (by decide) rfl (fun ls hl => ?_)
                refine lv_goto (tgt := 19) hx hb dX0_useful_86 (by decide) ?_
                exact ih_19 (a + 1) (nI (aj_sm (aj_us1 G i) a + aj_sm (aj_us2 G i a) b)) (by obtain rfl : b = 8 := (by omega); rfl) (by omega) (by omega) _ _ hP hS _ (lv_sub hl [1, 2, 3, 0] rfl)
              ·
                refine lv_aload_n hx hb dX0_useful_35 rfl (lv_at hl 0 rfl) ?_
                refine lv_iload_n hx hb dX0_useful_36 rfl (lv_at hl 1 rfl) ?_
                refine lv_iload_n hx hb dX0_useful_37 rfl (lv_at hl 3 rfl) ?_
                refine lv_iload hx hb dX0_useful_38 (lv_at hl 4 rfl) ?_
                refine aj_callR (As := [.int (nI i), .int (nI a), .int (nI b)]) (rest := []) F (aj_there l hG h1 (by omega) (by omega)) aj_gX0_X0_there aj_hX0_there (aj_rmR (by decide) (by decide)) rfl rfl hK hP (va_recv (q0 := 0) hK hP (ci := 0) rfl rfl) rfl hl.1 rfl (Nat.le_of_ble_eq_true rfl) ⟨Nat.zero_le _, Nat.zero_le _⟩ dX0_useful_40 ?_
                refine aj_ifeqB (tgt := 61) hx hb dX0_useful_43 (by decide) (fun c_43 => ?_) (fun c_43 => ?_)
                ·
                  refine lv_iconst (v := nI 0) hx hb dX0_useful_61 (by decide) ?_
                  refine lv_istore (lv' := [(5, .int (nI 0)), (0, .ref (ad 0)), (1, .int (nI i)), (2, .int (nI (aj_sm (aj_us1 G i) a + aj_sm (aj_us2 G i a) b))), (3, .int (nI a)), (4, .int (nI b))]) hx hb dX0_useful_62 hl (by decide) rfl (fun ls hl => ?_)
                  refine lv_iload hx hb dX0_useful_64 (lv_at hl 0 rfl) ?_
                  refine aj_ifeq (tgt := 75) hx hb (by omega) dX0_useful_66 (by decide) (fun c_66 => ?_) (fun c_66 => ?_)
                  ·
                    refine lv_iload_n hx hb dX0_useful_75 rfl (lv_at hl 3 rfl) ?_
                    refine lv_istore_n (lv' := [(2, .int (nI (aj_sm (aj_us1 G i) a + aj_sm (aj_us2 G i a) b))), (5, .int (nI 0)), (0, .ref (ad 0)), (1, .int (nI i)), (3, .int (nI a)), (4, .int (nI b))]) hx hb dX0_useful_76 rfl hl (by decide) rfl (fun ls hl => ?_)
                    refine lv_iinc (v := nI (b + 1)) (lv' := [(4, .int (nI (b + 1))), (2, .int (nI (aj_sm (aj_us1 G i) a + aj_sm (aj_us2 G i a) b))), (5, .int (nI 0)), (0, .ref (ad 0)), (1, .int (nI i)), (3, .int (nI a))]) hx hb dX0_useful_77 hl (k := 5) rfl (nI_add b 1) (by decide) rfl (fun ls hl => ?_)
                    refine lv_goto (tgt := 28) hx hb dX0_useful_80 (by decide) ?_
                    exact ih_28 (b + 1) (nI (aj_sm (aj_us1 G i) a + aj_sm (aj_us2 G i a) b)) (congrArg nI (by simp [aj_sm, aj_us2, *] <;> omega)) (by omega) (by omega) _ _ hP hS _ (lv_sub hl [3, 4, 1, 5, 0] rfl)
                  ·
                    exfalso; omega
                ·
                  refine lv_aload_n hx hb dX0_useful_46 rfl (lv_at hl 0 rfl) ?_
                  refine lv_iload_n hx hb dX0_useful_47 rfl (lv_at hl 1 rfl) ?_
                  refine lv_iload_n hx hb dX0_useful_48 rfl (lv_at hl 3 rfl) ?_
                  refine lv_iload hx hb dX0_useful_49 (lv_at hl 4 rfl) ?_
                  refine aj_callR (As := [.int (nI i), .int (nI a), .int (nI b)]) (rest := []) F (aj_share l hC h1 (by omega) (by omega)) aj_gX0_X0_share aj_hX0_share (aj_rmR (by decide) (by decide)) rfl rfl hK hP (va_recv (q0 := 0) hK hP (ci := 0) rfl rfl) rfl hl.1 rfl (Nat.le_of_ble_eq_true rfl) ⟨Nat.zero_le _, Nat.zero_le _⟩ dX0_useful_51 ?_
                  refine aj_ifle (tgt := 61) hx hb (Nat.lt_of_le_of_lt (aj_sh_le G i a b) (by decide)) dX0_useful_54 (by decide) (fun c_54 => ?_) (fun c_54 => ?_)
                  ·
                    refine lv_iconst (v := nI 0) hx hb dX0_useful_61 (by decide) ?_
                    refine lv_istore (lv' := [(5, .int (nI 0)), (0, .ref (ad 0)), (1, .int (nI i)), (2, .int (nI (aj_sm (aj_us1 G i) a + aj_sm (aj_us2 G i a) b))), (3, .int (nI a)), (4, .int (nI b))]) hx hb dX0_useful_62 hl (by decide) rfl (fun ls hl => ?_)
                    refine lv_iload hx hb dX0_useful_64 (lv_at hl 0 rfl) ?_
                    refine aj_ifeq (tgt := 75) hx hb (by omega) dX0_useful_66 (by decide) (fun c_66 => ?_) (fun c_66 => ?_)
                    ·
                      refine lv_iload_n hx hb dX0_useful_75 rfl (lv_at hl 3 rfl) ?_
                      refine lv_istore_n (lv' := [(2, .int (nI (aj_sm (aj_us1 G i) a + aj_sm (aj_us2 G i a) b))), (5, .int (nI 0)), (0, .ref (ad 0)), (1, .int (nI i)), (3, .int (nI a)), (4, .int (nI b))]) hx hb dX0_useful_76 rfl hl (by decide) rfl (fun ls hl => ?_)
                      refine lv_iinc (v := nI (b + 1)) (lv' := [(4, .int (nI (b + 1))), (2, .int (nI (aj_sm (aj_us1 G i) a + aj_sm (aj_us2 G i a) b))), (5, .int (nI 0)), (0, .ref (ad 0)), (1, .int (nI i)), (3, .int (nI a))]) hx hb dX0_useful_77 hl (k := 5) rfl (nI_add b 1) (by decide) rfl (fun ls hl => ?_)
                      refine lv_goto (tgt := 28) hx hb dX0_useful_80 (by decide) ?_
                      exact ih_28 (b + 1) (nI (aj_sm (aj_us1 G i) a + aj_sm (aj_us2 G i a) b)) (congrArg nI (by simp [aj_sm, aj_us2, *] <;> omega)) (by omega) (by omega) _ _ hP hS _ (lv_sub hl [3, 4, 1, 5, 0] rfl)
                    ·
                      exfalso; omega
                  ·
                    refine lv_iconst (v := nI 1) hx hb dX0_useful_57 (by decide) ?_
                    refine lv_goto (tgt := 62) hx hb dX0_useful_58 (by decide) ?_
                    refine lv_istore (lv' := [(5, .int (nI 1)), (0, .ref (ad 0)), (1, .int (nI i)), (2, .int (nI (aj_sm (aj_us1 G i) a + aj_sm (aj_us2 G i a) b))), (3, .int (nI a)), (4, .int (nI b))]) hx hb dX0_useful_62 hl (by decide) rfl (fun ls hl => ?_)
                    refine lv_iload hx hb dX0_useful_64 (lv_at hl 0 rfl) ?_
                    refine aj_ifeq (tgt := 75) hx hb (by omega) dX0_useful_66 (by decide) (fun c_66 => ?_) (fun c_66 => ?_)
                    ·
                      exfalso; omega
                    ·
                      refine lv_iload_n hx hb dX0_useful_69 rfl (lv_at hl 3 rfl) ?_
                      refine lv_iconst (v := nI 1) hx hb dX0_useful_70 (by decide) ?_
                      refine aj_iadd hx hb dX0_useful_71 ?_
                      refine lv_goto (tgt := 76) hx hb dX0_useful_72 (by decide) ?_
                      refine lv_istore_n (lv' := [(2, .int (nI ((aj_sm (aj_us1 G i) a + aj_sm (aj_us2 G i a) b) + 1))), (5, .int (nI 1)), (0, .ref (ad 0)), (1, .int (nI i)), (3, .int (nI a)), (4, .int (nI b))]) hx hb dX0_useful_76 rfl hl (by decide) rfl (fun ls hl => ?_)
                      refine lv_iinc (v := nI (b + 1)) (lv' := [(4, .int (nI (b + 1))), (2, .int (nI ((aj_sm (aj_us1 G i) a + aj_sm (aj_us2 G i a) b) + 1))), (5, .int (nI 1)), (0, .ref (ad 0)), (1, .int (nI i)), (3, .int (nI a))]) hx hb dX0_useful_77 hl (k := 5) rfl (nI_add b 1) (by decide) rfl (fun ls hl => ?_)
                      refine lv_goto (tgt := 28) hx hb dX0_useful_80 (by decide) ?_
                      exact ih_28 (b + 1) (nI ((aj_sm (aj_us1 G i) a + aj_sm (aj_us2 G i a) b) + 1)) (congrArg nI (by simp [aj_sm, aj_us2, *] <;> omega)) (by omega) (by omega) _ _ hP hS _ (lv_sub hl [3, 4, 1, 5, 0] rfl)
          exact L_28 9 0 (nI (aj_sm (aj_us1 G i) a)) rfl (by omega) (by omega) _ _ hP hS _ (lv_sub hl [1, 2, 3, 4, 0] rfl)
    exact L_19 9 0 (nI 0) rfl (by omega) (by omega) _ _ hP hS _ (lv_sub hl [2, 3, 1, 0] rfl)
  ·
    exfalso; omega

set_option maxHeartbeats 4000000 in
set_option maxRecDepth 100000 in
theorem aj_C_useful_bad (l : Launch) {D : va_G} {ad : Nat → Nat} {d : ClassId} {G : aj_T} {S : Nat → Int32} (hap : aj_Ap 8 ad) {x : Int32} (h1 : aj_out 4 x = true) : aj_MW l yX0_useful cX0_useful 6 .int 2 D [(d, .int)] [.ref (ad 0), .int x] (aj_CC D ad d G S) (aj_PV ((-1)) (aj_CC D ad d G S)) (aj_In 8 ad) := by
  refine aj_rw (Post := aj_PV ((-1)) (aj_CC D ad d G S)) (pre := (aj_CC D ad d G S)) (aj_In 8 ad) RX0 (by decide) rfl (Nat.le_of_ble_eq_true rfl) (fun v H h => aj_nI rfl v) ?_
  intro p e s m args below meth c ls Q F hK hP hl hret
  obtain ⟨hx, hb, hml, hown, hts⟩ := id F
  have hS : va_S (aj_In 8 ad) s.heap s.heap [] := va_S.rf
  have hl : lv_has ls 6 [(0, .ref (ad 0)), (1, .int x)] := hl
  obtain ⟨N, pb, dR, dT, dQ, uQ, uR, re, hG, hC, hP⟩ := hP
  refine lv_iload_n hx hb dX0_useful_0 rfl (lv_at hl 1 rfl) ?_
  refine lv_if_lt (tgt := 9) hx hb dX0_useful_1 (by decide) (fun c_1 => ?_) (fun c_1 => ?_)
  ·
    refine lv_iconst (v := (-1)) hx hb dX0_useful_9 (by decide) ?_
    exact hret ((-1)) _ _ _ _ dX0_useful_10 hS (⟨rfl, N, pb, dR, dT, dQ, uQ, uR, re, hG, hC, hP⟩)
  ·
    refine lv_iload_n hx hb dX0_useful_4 rfl (lv_at hl 1 rfl) ?_
    refine lv_iconst (v := nI 4) hx hb dX0_useful_5 (by decide) ?_
    refine lv_icmp_lt (tgt := 11) hx hb dX0_useful_6 (by decide) (fun c_6 => ?_) (fun c_6 => ?_)
    ·
      exact absurd c_6 (aj_out_no h1 c_1)
    ·
      refine lv_iconst (v := (-1)) hx hb dX0_useful_9 (by decide) ?_
      exact hret ((-1)) _ _ _ _ dX0_useful_10 hS (⟨rfl, N, pb, dR, dT, dQ, uQ, uR, re, hG, hC, hP⟩)

set_option maxHeartbeats 4000000 in
set_option maxRecDepth 100000 in
theorem aj_C_weight_ok (l : Launch) {D : va_G} {ad : Nat → Nat} {d : ClassId} {G : aj_T} {S : Nat → Int32} (hap : aj_Ap 8 ad) {i a b : Nat} (h1 : i < 4) (h2 : a < 8) (h3 : b < 8) : aj_MW l yX0_weight cX0_weight 4 .int 2 D [(d, .int)] [.ref (ad 0), .int (nI i), .int (nI a), .int (nI b)] (aj_CC D ad d G S) (aj_PV (nI (aj_weV G i a b)) (aj_CC D ad d G S)) (aj_In 8 ad) := by
  refine aj_rw (Post := aj_PV (nI (aj_weV G i a b)) (aj_CC D ad d G S)) (pre := (aj_CC D ad d G S)) (aj_In 8 ad) RX0 (by decide) rfl (Nat.le_of_ble_eq_true rfl) (fun v H h => aj_nI rfl v) ?_
  intro p e s m args below meth c ls Q F hK hP hl hret
  obtain ⟨hx, hb, hml, hown, hts⟩ := id F
  have hS : va_S (aj_In 8 ad) s.heap s.heap [] := va_S.rf
  have hl : lv_has ls 4 [(0, .ref (ad 0)), (1, .int (nI i)), (2, .int (nI a)), (3, .int (nI b))] := hl
  obtain ⟨N, pb, dR, dT, dQ, uQ, uR, re, hG, hC, hP⟩ := hP
  refine lv_aload_n hx hb dX0_weight_0 rfl (lv_at hl 0 rfl) ?_
  refine lv_iload_n hx hb dX0_weight_1 rfl (lv_at hl 1 rfl) ?_
  refine lv_iload_n hx hb dX0_weight_2 rfl (lv_at hl 2 rfl) ?_
  refine lv_iload_n hx hb dX0_weight_3 rfl (lv_at hl 3 rfl) ?_
  refine aj_callR (As := [.int (nI i), .int (nI a), .int (nI b)]) (rest := []) F (aj_badRow l) aj_gX0_X0_badRow aj_hX0_badRow (aj_rmR (by decide) (by decide)) rfl rfl hK hP (va_recv (q0 := 0) hK hP (ci := 0) rfl rfl) rfl hl.1 rfl (Nat.le_of_ble_eq_true rfl) ⟨Nat.zero_le _, Nat.zero_le _⟩ dX0_weight_4 ?_
  refine aj_ifneB (tgt := 20) hx hb dX0_weight_7 (by decide) (fun c_7 => ?_) (fun c_7 => ?_)
  ·
    rw [aj_bad_ok h1 h2 h3] at c_7; cases c_7
  ·
    refine lv_aload_n hx hb dX0_weight_10 rfl (lv_at hl 0 rfl) ?_
    refine lv_iload_n hx hb dX0_weight_11 rfl (lv_at hl 1 rfl) ?_
    refine lv_iload_n hx hb dX0_weight_12 rfl (lv_at hl 2 rfl) ?_
    refine lv_iload_n hx hb dX0_weight_13 rfl (lv_at hl 3 rfl) ?_
    refine aj_callR (As := [.int (nI i), .int (nI a), .int (nI b)]) (rest := []) F (aj_there l hG h1 h2 h3) aj_gX0_X0_there aj_hX0_there (aj_rmR (by decide) (by decide)) rfl rfl hK hP (va_recv (q0 := 0) hK hP (ci := 0) rfl rfl) rfl hl.1 rfl (Nat.le_of_ble_eq_true rfl) ⟨Nat.zero_le _, Nat.zero_le _⟩ dX0_weight_14 ?_
    refine aj_ifneB (tgt := 22) hx hb dX0_weight_17 (by decide) (fun c_17 => ?_) (fun c_17 => ?_)
    ·
      refine lv_aload_n hx hb dX0_weight_22 rfl (lv_at hl 0 rfl) ?_
      refine aj_callV (A := aj_In 8 ad) (As := []) (rest := []) F (aj_pass l hap hG hC) aj_gX0_X0_pass aj_hX0_pass (aj_rmR (by decide) (by decide)) rfl rfl hK hP (va_recv (q0 := 0) hK hP (ci := 0) rfl rfl) rfl hl.1 rfl (Nat.le_of_ble_eq_true rfl) ⟨Nat.zero_le _, Nat.zero_le _⟩ dX0_weight_23 hS (fun _ h => h) (fun H locs hB _ _ hS => ?_)
      obtain ⟨dR, dT, dQ, uQ, uR, hC, hP⟩ := hB
      refine lv_aload_n hx hb dX0_weight_26 rfl (lv_at hl 0 rfl) ?_
      refine lv_iload_n hx hb dX0_weight_27 rfl (lv_at hl 1 rfl) ?_
      refine lv_iload_n hx hb dX0_weight_28 rfl (lv_at hl 2 rfl) ?_
      refine lv_iload_n hx hb dX0_weight_29 rfl (lv_at hl 3 rfl) ?_
      refine aj_callR (As := [.int (nI i), .int (nI a), .int (nI b)]) (rest := []) F (aj_share l hC h1 h2 h3) aj_gX0_X0_share aj_hX0_share (aj_rmR (by decide) (by decide)) rfl rfl hK hP (va_recv (q0 := 0) hK hP (ci := 0) rfl rfl) rfl hl.1 rfl (Nat.le_of_ble_eq_true rfl) ⟨Nat.zero_le _, Nat.zero_le _⟩ dX0_weight_30 ?_
      exact hret (nI (aj_sh G i a b)) _ _ _ _ dX0_weight_33 hS (⟨by simp [aj_weV, c_17], N, true, dR, dT, dQ, uQ, uR, re, hG, fun _ => hC, hP⟩)
    ·
      refine lv_iconst (v := nI 0) hx hb dX0_weight_20 (by decide) ?_
      exact hret (nI 0) _ _ _ _ dX0_weight_21 hS (⟨by simp [aj_weV, c_17], N, pb, dR, dT, dQ, uQ, uR, re, hG, hC, hP⟩)

set_option maxHeartbeats 4000000 in
set_option maxRecDepth 100000 in
theorem aj_C_weight_bad (l : Launch) {D : va_G} {ad : Nat → Nat} {d : ClassId} {G : aj_T} {S : Nat → Int32} (hap : aj_Ap 8 ad) {x y z : Int32} (h1 : aj_bad x y z = true) : aj_MW l yX0_weight cX0_weight 4 .int 2 D [(d, .int)] [.ref (ad 0), .int x, .int y, .int z] (aj_CC D ad d G S) (aj_PV (nI 0) (aj_CC D ad d G S)) (aj_In 8 ad) := by
  refine aj_rw (Post := aj_PV (nI 0) (aj_CC D ad d G S)) (pre := (aj_CC D ad d G S)) (aj_In 8 ad) RX0 (by decide) rfl (Nat.le_of_ble_eq_true rfl) (fun v H h => aj_nI rfl v) ?_
  intro p e s m args below meth c ls Q F hK hP hl hret
  obtain ⟨hx, hb, hml, hown, hts⟩ := id F
  have hS : va_S (aj_In 8 ad) s.heap s.heap [] := va_S.rf
  have hl : lv_has ls 4 [(0, .ref (ad 0)), (1, .int x), (2, .int y), (3, .int z)] := hl
  obtain ⟨N, pb, dR, dT, dQ, uQ, uR, re, hG, hC, hP⟩ := hP
  refine lv_aload_n hx hb dX0_weight_0 rfl (lv_at hl 0 rfl) ?_
  refine lv_iload_n hx hb dX0_weight_1 rfl (lv_at hl 1 rfl) ?_
  refine lv_iload_n hx hb dX0_weight_2 rfl (lv_at hl 2 rfl) ?_
  refine lv_iload_n hx hb dX0_weight_3 rfl (lv_at hl 3 rfl) ?_
  refine aj_callR (As := [.int x, .int y, .int z]) (rest := []) F (aj_badRow l) aj_gX0_X0_badRow aj_hX0_badRow (aj_rmR (by decide) (by decide)) rfl rfl hK hP (va_recv (q0 := 0) hK hP (ci := 0) rfl rfl) rfl hl.1 rfl (Nat.le_of_ble_eq_true rfl) ⟨Nat.zero_le _, Nat.zero_le _⟩ dX0_weight_4 ?_
  refine aj_ifneB (tgt := 20) hx hb dX0_weight_7 (by decide) (fun c_7 => ?_) (fun c_7 => ?_)
  ·
    refine lv_iconst (v := nI 0) hx hb dX0_weight_20 (by decide) ?_
    exact hret (nI 0) _ _ _ _ dX0_weight_21 hS (⟨rfl, N, pb, dR, dT, dQ, uQ, uR, re, hG, hC, hP⟩)
  ·
    rw [h1] at c_7; cases c_7

set_option maxHeartbeats 4000000 in
set_option maxRecDepth 100000 in
theorem aj_C_gain_ok (l : Launch) {D : va_G} {ad : Nat → Nat} {d : ClassId} {G : aj_T} {S : Nat → Int32} (hap : aj_Ap 8 ad) {i a b : Nat} (h1 : i < 4) (h2 : a < 8) (h3 : b < 8) : aj_MW l yX0_gain cX0_gain 4 .int 2 D [(d, .int)] [.ref (ad 0), .int (nI i), .int (nI a), .int (nI b)] (aj_CC D ad d G S) (aj_PV (nI (aj_gaV G i a b)) (aj_CC D ad d G S)) (aj_In 8 ad) := by
  refine aj_rw (Post := aj_PV (nI (aj_gaV G i a b)) (aj_CC D ad d G S)) (pre := (aj_CC D ad d G S)) (aj_In 8 ad) RX0 (by decide) rfl (Nat.le_of_ble_eq_true rfl) (fun v H h => aj_nI rfl v) ?_
  intro p e s m args below meth c ls Q F hK hP hl hret
  obtain ⟨hx, hb, hml, hown, hts⟩ := id F
  have hS : va_S (aj_In 8 ad) s.heap s.heap [] := va_S.rf
  have hl : lv_has ls 4 [(0, .ref (ad 0)), (1, .int (nI i)), (2, .int (nI a)), (3, .int (nI b))] := hl
  obtain ⟨N, pb, dR, dT, dQ, uQ, uR, re, hG, hC, hP⟩ := hP
  refine lv_aload_n hx hb dX0_gain_0 rfl (lv_at hl 0 rfl) ?_
  refine lv_iload_n hx hb dX0_gain_1 rfl (lv_at hl 1 rfl) ?_
  refine lv_iload_n hx hb dX0_gain_2 rfl (lv_at hl 2 rfl) ?_
  refine lv_iload_n hx hb dX0_gain_3 rfl (lv_at hl 3 rfl) ?_
  refine aj_callR (As := [.int (nI i), .int (nI a), .int (nI b)]) (rest := []) F (aj_badRow l) aj_gX0_X0_badRow aj_hX0_badRow (aj_rmR (by decide) (by decide)) rfl rfl hK hP (va_recv (q0 := 0) hK hP (ci := 0) rfl rfl) rfl hl.1 rfl (Nat.le_of_ble_eq_true rfl) ⟨Nat.zero_le _, Nat.zero_le _⟩ dX0_gain_4 ?_
  refine aj_ifeqB (tgt := 12) hx hb dX0_gain_7 (by decide) (fun c_7 => ?_) (fun c_7 => ?_)
  ·
    refine lv_aload_n hx hb dX0_gain_12 rfl (lv_at hl 0 rfl) ?_
    refine lv_iload_n hx hb dX0_gain_13 rfl (lv_at hl 1 rfl) ?_
    refine lv_iload_n hx hb dX0_gain_14 rfl (lv_at hl 2 rfl) ?_
    refine lv_iload_n hx hb dX0_gain_15 rfl (lv_at hl 3 rfl) ?_
    refine aj_callR (As := [.int (nI i), .int (nI a), .int (nI b)]) (rest := []) F (aj_there l hG h1 h2 h3) aj_gX0_X0_there aj_hX0_there (aj_rmR (by decide) (by decide)) rfl rfl hK hP (va_recv (q0 := 0) hK hP (ci := 0) rfl rfl) rfl hl.1 rfl (Nat.le_of_ble_eq_true rfl) ⟨Nat.zero_le _, Nat.zero_le _⟩ dX0_gain_16 ?_
    refine aj_ifeqB (tgt := 24) hx hb dX0_gain_19 (by decide) (fun c_19 => ?_) (fun c_19 => ?_)
    ·
      refine lv_aload_n hx hb dX0_gain_24 rfl (lv_at hl 0 rfl) ?_
      refine aj_callV (A := aj_In 8 ad) (As := []) (rest := []) F (aj_pass l hap hG hC) aj_gX0_X0_pass aj_hX0_pass (aj_rmR (by decide) (by decide)) rfl rfl hK hP (va_recv (q0 := 0) hK hP (ci := 0) rfl rfl) rfl hl.1 rfl (Nat.le_of_ble_eq_true rfl) ⟨Nat.zero_le _, Nat.zero_le _⟩ dX0_gain_25 hS (fun _ h => h) (fun H locs hB _ _ hS => ?_)
      obtain ⟨dR, dT, dQ, uQ, uR, hC, hP⟩ := hB
      refine lv_aload_n hx hb dX0_gain_28 rfl (lv_at hl 0 rfl) ?_
      refine lv_iload_n hx hb dX0_gain_29 rfl (lv_at hl 1 rfl) ?_
      refine lv_iload_n hx hb dX0_gain_30 rfl (lv_at hl 2 rfl) ?_
      refine lv_iload_n hx hb dX0_gain_31 rfl (lv_at hl 3 rfl) ?_
      refine aj_callR (As := [.int (nI i), .int (nI a), .int (nI b)]) (rest := []) F (aj_share l hC h1 h2 h3) aj_gX0_X0_share aj_hX0_share (aj_rmR (by decide) (by decide)) rfl rfl hK hP (va_recv (q0 := 0) hK hP (ci := 0) rfl rfl) rfl hl.1 rfl (Nat.le_of_ble_eq_true rfl) ⟨Nat.zero_le _, Nat.zero_le _⟩ dX0_gain_32 ?_
      exact hret (nI (aj_sh G i a b)) _ _ _ _ dX0_gain_35 hS (⟨by simp [aj_gaV, c_19], N, true, dR, dT, dQ, uQ, uR, re, hG, fun _ => hC, hP⟩)
    ·
      refine lv_iconst (v := nI 0) hx hb dX0_gain_22 (by decide) ?_
      exact hret (nI 0) _ _ _ _ dX0_gain_23 hS (⟨by simp [aj_gaV, c_19], N, pb, dR, dT, dQ, uQ, uR, re, hG, hC, hP⟩)
  ·
    rw [aj_bad_ok h1 h2 h3] at c_7; cases c_7

set_option maxHeartbeats 4000000 in
set_option maxRecDepth 100000 in
theorem aj_C_gain_bad (l : Launch) {D : va_G} {ad : Nat → Nat} {d : ClassId} {G : aj_T} {S : Nat → Int32} (hap : aj_Ap 8 ad) {x y z : Int32} (h1 : aj_bad x y z = true) : aj_MW l yX0_gain cX0_gain 4 .int 2 D [(d, .int)] [.ref (ad 0), .int x, .int y, .int z] (aj_CC D ad d G S) (aj_PV ((-1)) (aj_CC D ad d G S)) (aj_In 8 ad) := by
  refine aj_rw (Post := aj_PV ((-1)) (aj_CC D ad d G S)) (pre := (aj_CC D ad d G S)) (aj_In 8 ad) RX0 (by decide) rfl (Nat.le_of_ble_eq_true rfl) (fun v H h => aj_nI rfl v) ?_
  intro p e s m args below meth c ls Q F hK hP hl hret
  obtain ⟨hx, hb, hml, hown, hts⟩ := id F
  have hS : va_S (aj_In 8 ad) s.heap s.heap [] := va_S.rf
  have hl : lv_has ls 4 [(0, .ref (ad 0)), (1, .int x), (2, .int y), (3, .int z)] := hl
  obtain ⟨N, pb, dR, dT, dQ, uQ, uR, re, hG, hC, hP⟩ := hP
  refine lv_aload_n hx hb dX0_gain_0 rfl (lv_at hl 0 rfl) ?_
  refine lv_iload_n hx hb dX0_gain_1 rfl (lv_at hl 1 rfl) ?_
  refine lv_iload_n hx hb dX0_gain_2 rfl (lv_at hl 2 rfl) ?_
  refine lv_iload_n hx hb dX0_gain_3 rfl (lv_at hl 3 rfl) ?_
  refine aj_callR (As := [.int x, .int y, .int z]) (rest := []) F (aj_badRow l) aj_gX0_X0_badRow aj_hX0_badRow (aj_rmR (by decide) (by decide)) rfl rfl hK hP (va_recv (q0 := 0) hK hP (ci := 0) rfl rfl) rfl hl.1 rfl (Nat.le_of_ble_eq_true rfl) ⟨Nat.zero_le _, Nat.zero_le _⟩ dX0_gain_4 ?_
  refine aj_ifeqB (tgt := 12) hx hb dX0_gain_7 (by decide) (fun c_7 => ?_) (fun c_7 => ?_)
  ·
    rw [h1] at c_7; cases c_7
  ·
    refine lv_iconst (v := (-1)) hx hb dX0_gain_10 (by decide) ?_
    exact hret ((-1)) _ _ _ _ dX0_gain_11 hS (⟨rfl, N, pb, dR, dT, dQ, uQ, uR, re, hG, hC, hP⟩)

set_option maxHeartbeats 4000000 in
set_option maxRecDepth 100000 in
theorem aj_C_values_ok (l : Launch) {D : va_G} {ad : Nat → Nat} {d : ClassId} {G : aj_T} {S : Nat → Int32} (hap : aj_Ap 8 ad) {k : Nat} (h1 : k < 5) : aj_MW l yX0_values cX0_values 5 .int 3 D [(d, .int)] [.ref (ad 0), .int (nI k)] (aj_CC D ad d G S) (aj_PV (nI (aj_vaV G k)) (aj_CC D ad d G S)) (aj_In 8 ad) := by
  refine aj_rw (Post := aj_PV (nI (aj_vaV G k)) (aj_CC D ad d G S)) (pre := (aj_CC D ad d G S)) (aj_In 8 ad) RX0 (by decide) rfl (Nat.le_of_ble_eq_true rfl) (fun v H h => aj_nI rfl v) ?_
  intro p e s m args below meth c ls Q F hK hP hl hret
  obtain ⟨hx, hb, hml, hown, hts⟩ := id F
  have hS : va_S (aj_In 8 ad) s.heap s.heap [] := va_S.rf
  have hl : lv_has ls 5 [(0, .ref (ad 0)), (1, .int (nI k))] := hl
  obtain ⟨N, pb, dR, dT, dQ, uQ, uR, re, hG, hC, hP⟩ := hP
  refine lv_iload_n hx hb dX0_values_0 rfl (lv_at hl 1 rfl) ?_
  refine aj_iflt (tgt := 9) hx hb (by omega) dX0_values_1 (by decide) ?_
  refine lv_iload_n hx hb dX0_values_4 rfl (lv_at hl 1 rfl) ?_
  refine lv_iconst (v := nI 4) hx hb dX0_values_5 (by decide) ?_
  refine aj_le (tgt := 11) hx hb (by omega) (by decide) dX0_values_6 (by decide) (fun c_6 => ?_) (fun c_6 => ?_)
  ·
    refine lv_aload_n hx hb dX0_values_11 rfl (lv_at hl 0 rfl) ?_
    refine aj_callV (A := aj_In 8 ad) (As := []) (rest := []) F (aj_pass l hap hG hC) aj_gX0_X0_pass aj_hX0_pass (aj_rmR (by decide) (by decide)) rfl rfl hK hP (va_recv (q0 := 0) hK hP (ci := 0) rfl rfl) rfl hl.1 rfl (Nat.le_of_ble_eq_true rfl) ⟨Nat.zero_le _, Nat.zero_le _⟩ dX0_values_12 hS (fun _ h => h) (fun H locs hB _ _ hS => ?_)
    obtain ⟨dR, dT, dQ, uQ, uR, hC, hP⟩ := hB
    refine lv_iconst (v := nI 0) hx hb dX0_values_15 (by decide) ?_
    refine lv_istore_n (lv' := [(2, .int (nI 0)), (0, .ref (ad 0)), (1, .int (nI k))]) hx hb dX0_values_16 rfl hl (by decide) rfl (fun ls hl => ?_)
    refine lv_iconst (v := nI 0) hx hb dX0_values_17 (by decide) ?_
    refine lv_istore_n (lv' := [(3, .int (nI 0)), (2, .int (nI 0)), (0, .ref (ad 0)), (1, .int (nI k))]) hx hb dX0_values_18 rfl hl (by decide) rfl (fun ls hl => ?_)
    have L_19 : ∀ (n_19 : Nat), ∀ (v : Nat) (y : Int32), y = nI (aj_sm (aj_va1 G k) v) → v ≤ 8 → 9 ≤ v + n_19 → ∀ (H : Heap) (locs : List Loc), va_P D aj_cl (aj_cW ad d N S (nI 1) dR dT dQ uQ uR re) H → va_S (aj_In 8 ad) s.heap H locs → ∀ (ls : Array Slot), lv_has ls 5 [(0, .ref (ad 0)), (1, .int (nI k)), (2, .int y), (3, .int (nI v))] → W p l e (aj_rm 3) s m args below meth c H locs 0 0 Q (F0 m 19 ls []) := by
      intro n_19
      induction n_19 with
      | zero =>
        intro v y e_y hv hfu H locs hP hS ls hl
        exfalso; omega
      | succ n_19 ih_19 =>
        intro v y e_y hv hfu H locs hP hS ls hl
        subst e_y
        refine lv_iload_n hx hb dX0_values_19 rfl (lv_at hl 3 rfl) ?_
        refine lv_bipush (v := nI 8) hx hb dX0_values_20 (by decide) ?_
        refine aj_ge (tgt := 52) hx hb (by omega) (by decide) dX0_values_22 (by decide) (fun c_22 => ?_) (fun c_22 => ?_)
        ·
          refine lv_iload_n hx hb dX0_values_52 rfl (lv_at hl 2 rfl) ?_
          exact hret (nI (aj_sm (aj_va1 G k) v)) _ _ _ _ dX0_values_53 hS (⟨by rw [show v = 8 by omega]; rfl, N, true, dR, dT, dQ, uQ, uR, re, hG, fun _ => hC, hP⟩)
        ·
          refine lv_aload_n hx hb dX0_values_25 rfl (lv_at hl 0 rfl) ?_
          refine lv_iload_n hx hb dX0_values_26 rfl (lv_at hl 1 rfl) ?_
          refine lv_iload_n hx hb dX0_values_27 rfl (lv_at hl 3 rfl) ?_
          refine aj_callR (As := [.int (nI k), .int (nI v)]) (rest := []) F (aj_inColumn l hG hC h1 (by omega)) aj_gX0_X0_inColumn aj_hX0_inColumn (aj_rmR (by decide) (by decide)) rfl rfl hK hP (va_recv (q0 := 0) hK hP (ci := 0) rfl rfl) rfl hl.1 rfl (Nat.le_of_ble_eq_true rfl) ⟨Nat.zero_le _, Nat.zero_le _⟩ dX0_values_28 ?_
          refine lv_istore (lv' := [(4, .int (nI (aj_col G k v))), (0, .ref (ad 0)), (1, .int (nI k)), (2, .int (nI (aj_sm (aj_va1 G k) v))), (3, .int (nI v))]) hx hb dX0_values_31 hl (by decide) rfl (fun ls hl => ?_)
          refine lv_iload hx hb dX0_values_33 (lv_at hl 0 rfl) ?_
          refine aj_ifle (tgt := 44) hx hb (Nat.lt_of_le_of_lt (aj_col_le G k v) (by decide)) dX0_values_35 (by decide) (fun c_35 => ?_) (fun c_35 => ?_)
          ·
            refine lv_iload_n hx hb dX0_values_44 rfl (lv_at hl 3 rfl) ?_
            refine lv_istore_n (lv' := [(2, .int (nI (aj_sm (aj_va1 G k) v))), (4, .int (nI (aj_col G k v))), (0, .ref (ad 0)), (1, .int (nI k)), (3, .int (nI v))]) hx hb dX0_values_45 rfl hl (by decide) rfl (fun ls hl => ?_)
            refine lv_iinc (v := nI (v + 1)) (lv' := [(3, .int (nI (v + 1))), (2, .int (nI (aj_sm (aj_va1 G k) v))), (4, .int (nI (aj_col G k v))), (0, .ref (ad 0)), (1, .int (nI k))]) hx hb dX0_values_46 hl (k := 4) rfl (nI_add v 1) (by decide) rfl (fun ls hl => ?_)
            refine lv_goto (tgt := 19) hx hb dX0_values_49 (by decide) ?_
            exact ih_19 (v + 1) (nI (aj_sm (aj_va1 G k) v)) (congrArg nI (by simp [aj_sm, aj_va1, *] <;> omega)) (by omega) (by omega) _ _ hP hS _ (lv_sub hl [3, 4, 1, 0] rfl)
          ·
            refine lv_iload_n hx hb dX0_values_38 rfl (lv_at hl 3 rfl) ?_
            refine lv_iconst (v := nI 1) hx hb dX0_values_39 (by decide) ?_
            refine aj_iadd hx hb dX0_values_40 ?_
            refine lv_goto (tgt := 45) hx hb dX0_values_41 (by decide) ?_
            refine lv_istore_n (lv' := [(2, .int (nI ((aj_sm (aj_va1 G k) v) + 1))), (4, .int (nI (aj_col G k v))), (0, .ref (ad 0)), (1, .int (nI k)), (3, .int (nI v))]) hx hb dX0_values_45 rfl hl (by decide) rfl (fun ls hl => ?_)
            refine lv_iinc (v := nI (v + 1)) (lv' := [(3, .int (nI (v + 1))), (2, .int (nI ((aj_sm (aj_va1 G k) v) + 1))), (4, .int (nI (aj_col G k v))), (0, .ref (ad 0)), (1, .int (nI k))]) hx hb dX0_values_46 hl (k := 4) rfl (nI_add v 1) (by decide) rfl (fun ls hl => ?_)
            refine lv_goto (tgt := 19) hx hb dX0_values_49 (by decide) ?_
            exact ih_19 (v + 1) (nI ((aj_sm (aj_va1 G k) v) + 1)) (congrArg nI (by simp [aj_sm, aj_va1, *] <;> omega)) (by omega) (by omega) _ _ hP hS _ (lv_sub hl [3, 4, 1, 0] rfl)
    exact L_19 9 0 (nI 0) rfl (by omega) (by omega) _ _ hP hS _ (lv_sub hl [2, 3, 1, 0] rfl)
  ·
    exfalso; omega

set_option maxHeartbeats 4000000 in
set_option maxRecDepth 100000 in
theorem aj_C_values_bad (l : Launch) {D : va_G} {ad : Nat → Nat} {d : ClassId} {G : aj_T} {S : Nat → Int32} (hap : aj_Ap 8 ad) {x : Int32} (h1 : aj_out 5 x = true) : aj_MW l yX0_values cX0_values 5 .int 3 D [(d, .int)] [.ref (ad 0), .int x] (aj_CC D ad d G S) (aj_PV ((-1)) (aj_CC D ad d G S)) (aj_In 8 ad) := by
  refine aj_rw (Post := aj_PV ((-1)) (aj_CC D ad d G S)) (pre := (aj_CC D ad d G S)) (aj_In 8 ad) RX0 (by decide) rfl (Nat.le_of_ble_eq_true rfl) (fun v H h => aj_nI rfl v) ?_
  intro p e s m args below meth c ls Q F hK hP hl hret
  obtain ⟨hx, hb, hml, hown, hts⟩ := id F
  have hS : va_S (aj_In 8 ad) s.heap s.heap [] := va_S.rf
  have hl : lv_has ls 5 [(0, .ref (ad 0)), (1, .int x)] := hl
  obtain ⟨N, pb, dR, dT, dQ, uQ, uR, re, hG, hC, hP⟩ := hP
  refine lv_iload_n hx hb dX0_values_0 rfl (lv_at hl 1 rfl) ?_
  refine lv_if_lt (tgt := 9) hx hb dX0_values_1 (by decide) (fun c_1 => ?_) (fun c_1 => ?_)
  ·
    refine lv_iconst (v := (-1)) hx hb dX0_values_9 (by decide) ?_
    exact hret ((-1)) _ _ _ _ dX0_values_10 hS (⟨rfl, N, pb, dR, dT, dQ, uQ, uR, re, hG, hC, hP⟩)
  ·
    refine lv_iload_n hx hb dX0_values_4 rfl (lv_at hl 1 rfl) ?_
    refine lv_iconst (v := nI 4) hx hb dX0_values_5 (by decide) ?_
    refine lv_icmp_le (tgt := 11) hx hb dX0_values_6 (by decide) (fun c_6 => ?_) (fun c_6 => ?_)
    ·
      exact absurd c_6 (aj_out_no4 h1 c_1)
    ·
      refine lv_iconst (v := (-1)) hx hb dX0_values_9 (by decide) ?_
      exact hret ((-1)) _ _ _ _ dX0_values_10 hS (⟨rfl, N, pb, dR, dT, dQ, uQ, uR, re, hG, hC, hP⟩)

set_option maxHeartbeats 4000000 in
set_option maxRecDepth 100000 in
theorem aj_C_with_ok (l : Launch) {D : va_G} {ad : Nat → Nat} {d : ClassId} {G : aj_T} {S : Nat → Int32} (hap : aj_Ap 8 ad) {k v : Nat} (h1 : k < 5) (h2 : v < 8) : aj_MW l yX0_with cX0_with 3 .int 3 D [(d, .int)] [.ref (ad 0), .int (nI k), .int (nI v)] (aj_CC D ad d G S) (aj_PV (nI (aj_col G k v)) (aj_CC D ad d G S)) (aj_In 8 ad) := by
  refine aj_rw (Post := aj_PV (nI (aj_col G k v)) (aj_CC D ad d G S)) (pre := (aj_CC D ad d G S)) (aj_In 8 ad) RX0 (by decide) rfl (Nat.le_of_ble_eq_true rfl) (fun v H h => aj_nI rfl v) ?_
  intro p e s m args below meth c ls Q F hK hP hl hret
  obtain ⟨hx, hb, hml, hown, hts⟩ := id F
  have hS : va_S (aj_In 8 ad) s.heap s.heap [] := va_S.rf
  have hl : lv_has ls 3 [(0, .ref (ad 0)), (1, .int (nI k)), (2, .int (nI v))] := hl
  obtain ⟨N, pb, dR, dT, dQ, uQ, uR, re, hG, hC, hP⟩ := hP
  refine lv_iload_n hx hb dX0_with_0 rfl (lv_at hl 1 rfl) ?_
  refine aj_iflt (tgt := 19) hx hb (by omega) dX0_with_1 (by decide) ?_
  refine lv_iload_n hx hb dX0_with_4 rfl (lv_at hl 1 rfl) ?_
  refine lv_iconst (v := nI 4) hx hb dX0_with_5 (by decide) ?_
  refine aj_gt (tgt := 19) hx hb (by omega) (by decide) dX0_with_6 (by decide) (fun c_6 => ?_) (fun c_6 => ?_)
  ·
    exfalso; omega
  ·
    refine lv_iload_n hx hb dX0_with_9 rfl (lv_at hl 2 rfl) ?_
    refine aj_iflt (tgt := 19) hx hb (by omega) dX0_with_10 (by decide) ?_
    refine lv_iload_n hx hb dX0_with_13 rfl (lv_at hl 2 rfl) ?_
    refine lv_bipush (v := nI 8) hx hb dX0_with_14 (by decide) ?_
    refine aj_lt (tgt := 21) hx hb (by omega) (by decide) dX0_with_16 (by decide) (fun c_16 => ?_) (fun c_16 => ?_)
    ·
      refine lv_aload_n hx hb dX0_with_21 rfl (lv_at hl 0 rfl) ?_
      refine aj_callV (A := aj_In 8 ad) (As := []) (rest := []) F (aj_pass l hap hG hC) aj_gX0_X0_pass aj_hX0_pass (aj_rmR (by decide) (by decide)) rfl rfl hK hP (va_recv (q0 := 0) hK hP (ci := 0) rfl rfl) rfl hl.1 rfl (Nat.le_of_ble_eq_true rfl) ⟨Nat.zero_le _, Nat.zero_le _⟩ dX0_with_22 hS (fun _ h => h) (fun H locs hB _ _ hS => ?_)
      obtain ⟨dR, dT, dQ, uQ, uR, hC, hP⟩ := hB
      refine lv_aload_n hx hb dX0_with_25 rfl (lv_at hl 0 rfl) ?_
      refine lv_iload_n hx hb dX0_with_26 rfl (lv_at hl 1 rfl) ?_
      refine lv_iload_n hx hb dX0_with_27 rfl (lv_at hl 2 rfl) ?_
      refine aj_callR (As := [.int (nI k), .int (nI v)]) (rest := []) F (aj_inColumn l hG hC h1 h2) aj_gX0_X0_inColumn aj_hX0_inColumn (aj_rmR (by decide) (by decide)) rfl rfl hK hP (va_recv (q0 := 0) hK hP (ci := 0) rfl rfl) rfl hl.1 rfl (Nat.le_of_ble_eq_true rfl) ⟨Nat.zero_le _, Nat.zero_le _⟩ dX0_with_28 ?_
      exact hret (nI (aj_col G k v)) _ _ _ _ dX0_with_31 hS (⟨rfl, N, true, dR, dT, dQ, uQ, uR, re, hG, fun _ => hC, hP⟩)
    ·
      exfalso; omega

set_option maxHeartbeats 4000000 in
set_option maxRecDepth 100000 in
theorem aj_C_with_bad (l : Launch) {D : va_G} {ad : Nat → Nat} {d : ClassId} {G : aj_T} {S : Nat → Int32} (hap : aj_Ap 8 ad) {x y : Int32} (h1 : (aj_out 5 x || aj_out 8 y) = true) : aj_MW l yX0_with cX0_with 3 .int 3 D [(d, .int)] [.ref (ad 0), .int x, .int y] (aj_CC D ad d G S) (aj_PV ((-1)) (aj_CC D ad d G S)) (aj_In 8 ad) := by
  refine aj_rw (Post := aj_PV ((-1)) (aj_CC D ad d G S)) (pre := (aj_CC D ad d G S)) (aj_In 8 ad) RX0 (by decide) rfl (Nat.le_of_ble_eq_true rfl) (fun v H h => aj_nI rfl v) ?_
  intro p e s m args below meth c ls Q F hK hP hl hret
  obtain ⟨hx, hb, hml, hown, hts⟩ := id F
  have hS : va_S (aj_In 8 ad) s.heap s.heap [] := va_S.rf
  have hl : lv_has ls 3 [(0, .ref (ad 0)), (1, .int x), (2, .int y)] := hl
  obtain ⟨N, pb, dR, dT, dQ, uQ, uR, re, hG, hC, hP⟩ := hP
  refine lv_iload_n hx hb dX0_with_0 rfl (lv_at hl 1 rfl) ?_
  refine lv_if_lt (tgt := 19) hx hb dX0_with_1 (by decide) (fun c_1 => ?_) (fun c_1 => ?_)
  ·
    refine lv_iconst (v := (-1)) hx hb dX0_with_19 (by decide) ?_
    exact hret ((-1)) _ _ _ _ dX0_with_20 hS (⟨rfl, N, pb, dR, dT, dQ, uQ, uR, re, hG, hC, hP⟩)
  ·
    refine lv_iload_n hx hb dX0_with_4 rfl (lv_at hl 1 rfl) ?_
    refine lv_iconst (v := nI 4) hx hb dX0_with_5 (by decide) ?_
    refine lv_icmp_gt (tgt := 19) hx hb dX0_with_6 (by decide) (fun c_6 => ?_) (fun c_6 => ?_)
    ·
      refine lv_iconst (v := (-1)) hx hb dX0_with_19 (by decide) ?_
      exact hret ((-1)) _ _ _ _ dX0_with_20 hS (⟨rfl, N, pb, dR, dT, dQ, uQ, uR, re, hG, hC, hP⟩)
    ·
      refine lv_iload_n hx hb dX0_with_9 rfl (lv_at hl 2 rfl) ?_
      refine lv_if_lt (tgt := 19) hx hb dX0_with_10 (by decide) (fun c_10 => ?_) (fun c_10 => ?_)
      ·
        refine lv_iconst (v := (-1)) hx hb dX0_with_19 (by decide) ?_
        exact hret ((-1)) _ _ _ _ dX0_with_20 hS (⟨rfl, N, pb, dR, dT, dQ, uQ, uR, re, hG, hC, hP⟩)
      ·
        refine lv_iload_n hx hb dX0_with_13 rfl (lv_at hl 2 rfl) ?_
        refine lv_bipush (v := nI 8) hx hb dX0_with_14 (by decide) ?_
        refine lv_icmp_lt (tgt := 21) hx hb dX0_with_16 (by decide) (fun c_16 => ?_) (fun c_16 => ?_)
        ·
          exact absurd h1 (aj_wno c_1 c_6 c_10 c_16)
        ·
          refine lv_iconst (v := (-1)) hx hb dX0_with_19 (by decide) ?_
          exact hret ((-1)) _ _ _ _ dX0_with_20 hS (⟨rfl, N, pb, dR, dT, dQ, uQ, uR, re, hG, hC, hP⟩)

set_option maxHeartbeats 4000000 in
set_option maxRecDepth 100000 in
theorem aj_C_ends (l : Launch) {D : va_G} {ad : Nat → Nat} {d : ClassId} {G : aj_T} {S : Nat → Int32} (hap : aj_Ap 8 ad)  : aj_MW l yX0_ends cX0_ends 5 .int 2 D [(d, .int)] [.ref (ad 0)] (aj_CC D ad d G S) (aj_PV (nI (aj_enV G)) (aj_CC D ad d G S)) (aj_In 8 ad) := by
  refine aj_rw (Post := aj_PV (nI (aj_enV G)) (aj_CC D ad d G S)) (pre := (aj_CC D ad d G S)) (aj_In 8 ad) RX0 (by decide) rfl (Nat.le_of_ble_eq_true rfl) (fun v H h => aj_nI rfl v) ?_
  intro p e s m args below meth c ls Q F hK hP hl hret
  obtain ⟨hx, hb, hml, hown, hts⟩ := id F
  have hS : va_S (aj_In 8 ad) s.heap s.heap [] := va_S.rf
  have hl : lv_has ls 5 [(0, .ref (ad 0))] := hl
  obtain ⟨N, pb, dR, dT, dQ, uQ, uR, re, hG, hC, hP⟩ := hP
  refine lv_aload_n hx hb dX0_ends_0 rfl (lv_at hl 0 rfl) ?_
  refine aj_callV (A := aj_In 8 ad) (As := []) (rest := []) F (aj_pass l hap hG hC) aj_gX0_X0_pass aj_hX0_pass (aj_rmR (by decide) (by decide)) rfl rfl hK hP (va_recv (q0 := 0) hK hP (ci := 0) rfl rfl) rfl hl.1 rfl (Nat.le_of_ble_eq_true rfl) ⟨Nat.zero_le _, Nat.zero_le _⟩ dX0_ends_1 hS (fun _ h => h) (fun H locs hB _ _ hS => ?_)
  obtain ⟨dR, dT, dQ, uQ, uR, hC, hP⟩ := hB
  refine lv_iconst (v := nI 0) hx hb dX0_ends_4 (by decide) ?_
  refine lv_istore_n (lv' := [(1, .int (nI 0)), (0, .ref (ad 0))]) hx hb dX0_ends_5 rfl hl (by decide) rfl (fun ls hl => ?_)
  refine lv_iconst (v := nI 0) hx hb dX0_ends_6 (by decide) ?_
  refine lv_istore_n (lv' := [(2, .int (nI 0)), (1, .int (nI 0)), (0, .ref (ad 0))]) hx hb dX0_ends_7 rfl hl (by decide) rfl (fun ls hl => ?_)
  have L_8 : ∀ (n_8 : Nat), ∀ (v : Nat) (y : Int32), y = nI (aj_sm (aj_en1 G) v) → v ≤ 8 → 9 ≤ v + n_8 → ∀ (H : Heap) (locs : List Loc), va_P D aj_cl (aj_cW ad d N S (nI 1) dR dT dQ uQ uR re) H → va_S (aj_In 8 ad) s.heap H locs → ∀ (ls : Array Slot), lv_has ls 5 [(0, .ref (ad 0)), (1, .int y), (2, .int (nI v))] → W p l e (aj_rm 2) s m args below meth c H locs 0 0 Q (F0 m 8 ls []) := by
    intro n_8
    induction n_8 with
    | zero =>
      intro v y e_y hv hfu H locs hP hS ls hl
      exfalso; omega
    | succ n_8 ih_8 =>
      intro v y e_y hv hfu H locs hP hS ls hl
      subst e_y
      refine lv_iload_n hx hb dX0_ends_8 rfl (lv_at hl 2 rfl) ?_
      refine lv_bipush (v := nI 8) hx hb dX0_ends_9 (by decide) ?_
      refine aj_ge (tgt := 38) hx hb (by omega) (by decide) dX0_ends_11 (by decide) (fun c_11 => ?_) (fun c_11 => ?_)
      ·
        refine lv_iload_n hx hb dX0_ends_38 rfl (lv_at hl 1 rfl) ?_
        exact hret (nI (aj_sm (aj_en1 G) v)) _ _ _ _ dX0_ends_39 hS (⟨by rw [show v = 8 by omega]; rfl, N, true, dR, dT, dQ, uQ, uR, re, hG, fun _ => hC, hP⟩)
      ·
        refine lv_aload_n hx hb dX0_ends_14 rfl (lv_at hl 0 rfl) ?_
        refine lv_iload_n hx hb dX0_ends_15 rfl (lv_at hl 2 rfl) ?_
        refine aj_callR (As := [.int (nI v)]) (rest := []) F (aj_endsOf l hG hC (by omega)) aj_gX0_X0_endsOf aj_hX0_endsOf (aj_rmR (by decide) (by decide)) rfl rfl hK hP (va_recv (q0 := 0) hK hP (ci := 0) rfl rfl) rfl hl.1 rfl (Nat.le_of_ble_eq_true rfl) ⟨Nat.zero_le _, Nat.zero_le _⟩ dX0_ends_16 ?_
        refine lv_istore_n (lv' := [(3, .int (aj_fo G N v 8)), (0, .ref (ad 0)), (1, .int (nI (aj_sm (aj_en1 G) v))), (2, .int (nI v))]) hx hb dX0_ends_19 rfl hl (by decide) rfl (fun ls hl => ?_)
        refine lv_aload_n hx hb dX0_ends_20 rfl (lv_at hl 1 rfl) ?_
        refine lv_iload_n hx hb dX0_ends_21 rfl (lv_at hl 0 rfl) ?_
        refine aj_callR (As := [.int (aj_fo G N v 8)]) (rest := []) F (aj_sizeOf l (f := fun s => (aj_eb G v s).toNat) (aj_eb_bit hG v)) aj_gX0_X0_sizeOf aj_hX0_sizeOf (aj_rmR (by decide) (by decide)) rfl rfl hK hP (va_recv (q0 := 0) hK hP (ci := 0) rfl rfl) rfl hl.1 rfl (Nat.le_of_ble_eq_true rfl) ⟨Nat.zero_le _, Nat.zero_le _⟩ dX0_ends_22 ?_
        refine lv_istore (lv' := [(4, .int (nI (aj_en1 G v))), (3, .int (aj_fo G N v 8)), (0, .ref (ad 0)), (1, .int (nI (aj_sm (aj_en1 G) v))), (2, .int (nI v))]) hx hb dX0_ends_25 hl (by decide) rfl (fun ls hl => ?_)
        refine lv_iload_n hx hb dX0_ends_27 rfl (lv_at hl 3 rfl) ?_
        refine lv_iload hx hb dX0_ends_28 (lv_at hl 0 rfl) ?_
        refine aj_iadd hx hb dX0_ends_30 ?_
        refine lv_istore_n (lv' := [(1, .int (nI ((aj_sm (aj_en1 G) v) + (aj_en1 G v)))), (4, .int (nI (aj_en1 G v))), (3, .int (aj_fo G N v 8)), (0, .ref (ad 0)), (2, .int (nI v))]) hx hb dX0_ends_31 rfl hl (by decide) rfl (fun ls hl => ?_)
        refine lv_iinc (v := nI (v + 1)) (lv' := [(2, .int (nI (v + 1))), (1, .int (nI ((aj_sm (aj_en1 G) v) + (aj_en1 G v)))), (4, .int (nI (aj_en1 G v))), (3, .int (aj_fo G N v 8)), (0, .ref (ad 0))]) hx hb dX0_ends_32 hl (k := 4) rfl (nI_add v 1) (by decide) rfl (fun ls hl => ?_)
        refine lv_goto (tgt := 8) hx hb dX0_ends_35 (by decide) ?_
        exact ih_8 (v + 1) (nI ((aj_sm (aj_en1 G) v) + (aj_en1 G v))) rfl (by omega) (by omega) _ _ hP hS _ (lv_sub hl [4, 1, 0] rfl)
  exact L_8 9 0 (nI 0) rfl (by omega) (by omega) _ _ hP hS _ (lv_sub hl [2, 1, 0] rfl)

set_option maxHeartbeats 4000000 in
set_option maxRecDepth 100000 in
theorem aj_C_sum (l : Launch) {D : va_G} {ad : Nat → Nat} {d : ClassId} {G : aj_T} {S : Nat → Int32} (hap : aj_Ap 8 ad)  : aj_MW l yX0_sum cX0_sum 5 .int 3 D [(d, .int)] [.ref (ad 0)] (aj_CC D ad d G S) (aj_PV (nI (aj_suV G)) (aj_CC D ad d G S)) (aj_In 8 ad) := by
  refine aj_rw (Post := aj_PV (nI (aj_suV G)) (aj_CC D ad d G S)) (pre := (aj_CC D ad d G S)) (aj_In 8 ad) RX0 (by decide) rfl (Nat.le_of_ble_eq_true rfl) (fun v H h => aj_nI rfl v) ?_
  intro p e s m args below meth c ls Q F hK hP hl hret
  obtain ⟨hx, hb, hml, hown, hts⟩ := id F
  have hS : va_S (aj_In 8 ad) s.heap s.heap [] := va_S.rf
  have hl : lv_has ls 5 [(0, .ref (ad 0))] := hl
  obtain ⟨N, pb, dR, dT, dQ, uQ, uR, re, hG, hC, hP⟩ := hP
  refine lv_aload_n hx hb dX0_sum_0 rfl (lv_at hl 0 rfl) ?_
  refine aj_callV (A := aj_In 8 ad) (As := []) (rest := []) F (aj_pass l hap hG hC) aj_gX0_X0_pass aj_hX0_pass (aj_rmR (by decide) (by decide)) rfl rfl hK hP (va_recv (q0 := 0) hK hP (ci := 0) rfl rfl) rfl hl.1 rfl (Nat.le_of_ble_eq_true rfl) ⟨Nat.zero_le _, Nat.zero_le _⟩ dX0_sum_1 hS (fun _ h => h) (fun H locs hB _ _ hS => ?_)
  obtain ⟨dR, dT, dQ, uQ, uR, hC, hP⟩ := hB
  refine lv_iconst (v := nI 0) hx hb dX0_sum_4 (by decide) ?_
  refine lv_istore_n (lv' := [(1, .int (nI 0)), (0, .ref (ad 0))]) hx hb dX0_sum_5 rfl hl (by decide) rfl (fun ls hl => ?_)
  refine lv_iconst (v := nI 0) hx hb dX0_sum_6 (by decide) ?_
  refine lv_istore_n (lv' := [(2, .int (nI 0)), (1, .int (nI 0)), (0, .ref (ad 0))]) hx hb dX0_sum_7 rfl hl (by decide) rfl (fun ls hl => ?_)
  have L_8 : ∀ (n_8 : Nat), ∀ (v : Nat) (y : Int32), y = nI (aj_sm (aj_su1 G) v) → v ≤ 8 → 9 ≤ v + n_8 → ∀ (H : Heap) (locs : List Loc), va_P D aj_cl (aj_cW ad d N S (nI 1) dR dT dQ uQ uR re) H → va_S (aj_In 8 ad) s.heap H locs → ∀ (ls : Array Slot), lv_has ls 5 [(0, .ref (ad 0)), (1, .int y), (2, .int (nI v))] → W p l e (aj_rm 3) s m args below meth c H locs 0 0 Q (F0 m 8 ls []) := by
    intro n_8
    induction n_8 with
    | zero =>
      intro v y e_y hv hfu H locs hP hS ls hl
      exfalso; omega
    | succ n_8 ih_8 =>
      intro v y e_y hv hfu H locs hP hS ls hl
      subst e_y
      refine lv_iload_n hx hb dX0_sum_8 rfl (lv_at hl 2 rfl) ?_
      refine lv_bipush (v := nI 8) hx hb dX0_sum_9 (by decide) ?_
      refine aj_ge (tgt := 44) hx hb (by omega) (by decide) dX0_sum_11 (by decide) (fun c_11 => ?_) (fun c_11 => ?_)
      ·
        refine lv_iload_n hx hb dX0_sum_44 rfl (lv_at hl 1 rfl) ?_
        exact hret (nI (aj_sm (aj_su1 G) v)) _ _ _ _ dX0_sum_45 hS (⟨by rw [show v = 8 by omega]; rfl, N, true, dR, dT, dQ, uQ, uR, re, hG, fun _ => hC, hP⟩)
      ·
        refine lv_aload_n hx hb dX0_sum_14 rfl (lv_at hl 0 rfl) ?_
        refine lv_iconst (v := nI 3) hx hb dX0_sum_15 (by decide) ?_
        refine lv_iload_n hx hb dX0_sum_16 rfl (lv_at hl 2 rfl) ?_
        refine aj_callR (As := [.int (nI 3), .int (nI v)]) (rest := []) F (aj_inColumn l hG hC (by decide) (by omega)) aj_gX0_X0_inColumn aj_hX0_inColumn (aj_rmR (by decide) (by decide)) rfl rfl hK hP (va_recv (q0 := 0) hK hP (ci := 0) rfl rfl) rfl hl.1 rfl (Nat.le_of_ble_eq_true rfl) ⟨Nat.zero_le _, Nat.zero_le _⟩ dX0_sum_17 ?_
        refine lv_istore_n (lv' := [(3, .int (nI (aj_col G 3 v))), (0, .ref (ad 0)), (1, .int (nI (aj_sm (aj_su1 G) v))), (2, .int (nI v))]) hx hb dX0_sum_20 rfl hl (by decide) rfl (fun ls hl => ?_)
        refine lv_aload_n hx hb dX0_sum_21 rfl (lv_at hl 1 rfl) ?_
        refine lv_iconst (v := nI 4) hx hb dX0_sum_22 (by decide) ?_
        refine lv_iload_n hx hb dX0_sum_23 rfl (lv_at hl 3 rfl) ?_
        refine aj_callR (As := [.int (nI 4), .int (nI v)]) (rest := []) F (aj_inColumn l hG hC (by decide) (by omega)) aj_gX0_X0_inColumn aj_hX0_inColumn (aj_rmR (by decide) (by decide)) rfl rfl hK hP (va_recv (q0 := 0) hK hP (ci := 0) rfl rfl) rfl hl.1 rfl (Nat.le_of_ble_eq_true rfl) ⟨Nat.zero_le _, Nat.zero_le _⟩ dX0_sum_24 ?_
        refine lv_istore (lv' := [(4, .int (nI (aj_col G 4 v))), (3, .int (nI (aj_col G 3 v))), (0, .ref (ad 0)), (1, .int (nI (aj_sm (aj_su1 G) v))), (2, .int (nI v))]) hx hb dX0_sum_27 hl (by decide) rfl (fun ls hl => ?_)
        refine lv_iload_n hx hb dX0_sum_29 rfl (lv_at hl 3 rfl) ?_
        refine lv_iload_n hx hb dX0_sum_30 rfl (lv_at hl 4 rfl) ?_
        refine lv_iload_n hx hb dX0_sum_31 rfl (lv_at hl 1 rfl) ?_
        refine lv_iload hx hb dX0_sum_32 (lv_at hl 0 rfl) ?_
        refine aj_iadd hx hb dX0_sum_34 ?_
        refine aj_imul hx hb dX0_sum_35 ?_
        refine aj_iadd hx hb dX0_sum_36 ?_
        refine lv_istore_n (lv' := [(1, .int (nI ((aj_sm (aj_su1 G) v) + (v * ((aj_col G 3 v) + (aj_col G 4 v)))))), (4, .int (nI (aj_col G 4 v))), (3, .int (nI (aj_col G 3 v))), (0, .ref (ad 0)), (2, .int (nI v))]) hx hb dX0_sum_37 rfl hl (by decide) rfl (fun ls hl => ?_)
        refine lv_iinc (v := nI (v + 1)) (lv' := [(2, .int (nI (v + 1))), (1, .int (nI ((aj_sm (aj_su1 G) v) + (v * ((aj_col G 3 v) + (aj_col G 4 v)))))), (4, .int (nI (aj_col G 4 v))), (3, .int (nI (aj_col G 3 v))), (0, .ref (ad 0))]) hx hb dX0_sum_38 hl (k := 4) rfl (nI_add v 1) (by decide) rfl (fun ls hl => ?_)
        refine lv_goto (tgt := 8) hx hb dX0_sum_41 (by decide) ?_
        exact ih_8 (v + 1) (nI ((aj_sm (aj_su1 G) v) + (v * ((aj_col G 3 v) + (aj_col G 4 v))))) rfl (by omega) (by omega) _ _ hP hS _ (lv_sub hl [4, 1, 0] rfl)
  exact L_8 9 0 (nI 0) rfl (by omega) (by omega) _ _ hP hS _ (lv_sub hl [2, 1, 0] rfl)

end
end
section
section
/-- the answers with first value a -/
def aj_row0 (G : aj_T) (a : Nat) : Nat := aj_sm (aj_st G 0 a 1 0) 8
theorem aj_sm_congr {f g : Nat → Nat} : ∀ n, (∀ j, j < n → f j = g j) → aj_sm f n = aj_sm g n
  | 0, _ => rfl
  | n + 1, h => by
    rw [aj_sm_s, aj_sm_s, aj_sm_congr n (fun j hj => h j (Nat.lt_succ_of_lt hj)), h n (Nat.lt_succ_self n)]
theorem aj_sm_add (f g : Nat → Nat) : ∀ n, aj_sm (fun j => f j + g j) n = aj_sm f n + aj_sm g n
  | 0 => rfl
  | n + 1 => by
    rw [aj_sm_s, aj_sm_s, aj_sm_s, aj_sm_add f g n]
    omega
theorem aj_sm_mul (c : Nat) (f : Nat → Nat) : ∀ n, aj_sm (fun j => c * f j) n = c * aj_sm f n
  | 0 => by simp [aj_sm]
  | n + 1 => by
    rw [aj_sm_s, aj_sm_s, aj_sm_mul c f n, Nat.mul_add]
theorem aj_sm_zero : ∀ n, aj_sm (fun _ => 0) n = 0
  | 0 => rfl
  | n + 1 => by rw [aj_sm_s, aj_sm_zero n]
theorem aj_sm_swap (f : Nat → Nat → Nat) (k : Nat) : ∀ n, aj_sm (fun i => aj_sm (fun j => f i j) k) n = aj_sm (fun j => aj_sm (fun i => f i j) n) k
  | 0 => by
    show 0 = aj_sm (fun _ => 0) k
    rw [aj_sm_zero]
  | n + 1 => by
    rw [aj_sm_s, aj_sm_swap f k n, ← aj_sm_add]
    rfl
theorem aj_sm_mulr (c : Nat) (f : Nat → Nat) (n : Nat) : aj_sm (fun j => f j * c) n = aj_sm f n * c := by
  rw [Nat.mul_comm, ← aj_sm_mul]
  exact aj_sm_congr n (fun j _ => Nat.mul_comm _ _)
theorem aj_cnt_row (G : aj_T) : aj_cnt G = aj_sm (aj_row0 G) 8 := by
  show aj_sm (fun q => aj_sm (fun v => (G 0 v q).toNat) 8 * aj_be G q) 8 = aj_sm (fun a => aj_sm (fun b => (G 0 a b).toNat * (1 * aj_be G b)) 8) 8
  rw [aj_sm_swap]
  refine aj_sm_congr 8 (fun q _ => ?_)
  simp only [Nat.one_mul]
  rw [aj_sm_mulr]
theorem aj_st1_8 (G : aj_T) (q : Nat) : aj_sm (aj_st G 1 q (aj_cT G q) 1) 8 = aj_be G q := by
  show aj_sm (fun r => (G 1 q r).toNat * (aj_cT G q * aj_cR G r)) 8 = aj_sm (fun r => (G 1 q r).toNat * aj_cR G r) 8 * aj_cT G q
  rw [← aj_sm_mulr]
  refine aj_sm_congr 8 (fun r _ => ?_)
  rw [Nat.mul_comm (aj_cT G q), Nat.mul_assoc]
theorem aj_st2_8 (G : aj_T) (r c : Nat) : aj_sm (aj_st G 2 r c 2) 8 = c * aj_cR G r := by
  show aj_sm (fun b => (G 2 r b).toNat * (c * 1)) 8 = c * aj_sm (fun b => (G 2 r b).toNat) 8
  rw [← aj_sm_mul]
  refine aj_sm_congr 8 (fun r _ => ?_)
  rw [Nat.mul_one, Nat.mul_comm]
theorem aj_st3_8 (G : aj_T) (q : Nat) : aj_sm (aj_st G 3 q 1 2) 8 = aj_cT G q := by
  show aj_sm (fun b => (G 3 q b).toNat * (1 * 1)) 8 = aj_sm (fun b => (G 3 q b).toNat) 8
  refine aj_sm_congr 8 (fun r _ => ?_)
  simp
theorem aj_cnt_le (G : aj_T) : aj_cnt G ≤ 32768 := aj_sm8 (k := 4096) (fun j _ => Nat.mul_le_mul (aj_uQ_le G j) (aj_be_le G j))
theorem aj_scv {G : aj_T} {sc k b : Nat} (h : sc ≤ 8) : sc * aj_kv G k b < 2 ^ 31 := Nat.lt_of_le_of_lt (Nat.mul_le_mul h (aj_kv_le G k b)) (by decide)
/-- where a number falls in a row -/
abbrev aj_WK (D : va_G) (ad : Nat → Nat) (d : ClassId) (N S : Nat → Int32) (pd : Int32) (dR dT dQ uQ uR : Nat → Int32) (G : aj_T) (i a sc k rho : Nat) (v : Int32) (H : Heap) : Prop :=
  (∃ b r2 : Nat, b < 8 ∧ G i a b = true ∧ rho = r2 + aj_sm (aj_st G i a sc k) b ∧ r2 < sc * aj_kv G k b ∧ v = nI b ∧ aj_cP D ad d N S pd dR dT dQ uQ uR (nI r2) H) ∨ (v = (-4) ∧ ∃ r2 : Nat, rho = r2 + aj_sm (aj_st G i a sc k) 8 ∧ aj_cP D ad d N S pd dR dT dQ uQ uR (nI r2) H)
/-- the combination at place kap -/
def aj_IsK (G : aj_T) (kap vp vq vr vs vt : Nat) : Prop := (vp < 8 ∧ vq < 8 ∧ vr < 8 ∧ vs < 8 ∧ vt < 8) ∧ (G 0 vp vq = true ∧ G 1 vq vr = true ∧ G 2 vr vs = true ∧ G 3 vq vt = true) ∧ kap = aj_sm (aj_row0 G) vp + aj_sm (aj_st G 0 vp 1 0) vq + aj_sm (aj_st G 1 vq (aj_cT G vq) 1) vr + aj_sm (aj_st G 2 vr (aj_cT G vq) 2) vs + aj_sm (aj_st G 3 vq 1 2) vt
abbrev aj_PA (G : aj_T) (kap : Nat) (P : Heap → Prop) (v : Int32) (H : Heap) : Prop := (∃ vp vq vr vs vt : Nat, aj_IsK G kap vp vq vr vs vt ∧ v = nI (vp + 8 * vq + 64 * vr + 512 * vs + 4096 * vt)) ∧ P H
/-- rank, by the digits of the code -/
def aj_rkV (G : aj_T) (k : Nat) : Nat := aj_sm (aj_row0 G) (k % 8) + aj_sm (aj_st G 0 (k % 8) 1 0) (k / 8 % 8) + (if G 0 (k % 8) (k / 8 % 8) = true then aj_sm (aj_st G 1 (k / 8 % 8) (aj_cT G (k / 8 % 8)) 1) (k / 64 % 8) + (if G 1 (k / 8 % 8) (k / 64 % 8) = true then aj_sm (aj_st G 2 (k / 64 % 8) (aj_cT G (k / 8 % 8)) 2) (k / 512 % 8) + (if G 2 (k / 64 % 8) (k / 512 % 8) = true then aj_sm (aj_st G 3 (k / 8 % 8) 1 2) (k / 4096) else 0) else 0) else 0)

set_option maxHeartbeats 4000000 in
set_option maxRecDepth 100000 in
theorem aj_walk (l : Launch) {D : va_G} {ad : Nat → Nat} {d : ClassId} {N S : Nat → Int32} {pd : Int32} {dR dT dQ uQ uR : Nat → Int32} {G : aj_T} (hap : aj_Ap 8 ad) (hG : aj_Rel N G) (hC : aj_Ca G dR dT dQ uQ uR) {i a sc k rho : Nat} (h1 : i < 4) (h2 : a < 8) (h3 : sc ≤ 8) (h4 : k < 3) (h5 : rho < 2 ^ 31) : aj_MW l yX0_walk cX0_walk 7 .int 1 D [(d, .int)] [.ref (ad 0), .int (nI i), .int (nI a), .int (nI sc), .int (nI k)] (aj_cP D ad d N S pd dR dT dQ uQ uR (nI rho)) (aj_WK D ad d N S pd dR dT dQ uQ uR G i a sc k rho) (aj_In 8 ad) := by
  refine aj_rw (Post := aj_WK D ad d N S pd dR dT dQ uQ uR G i a sc k rho) (pre := (aj_cP D ad d N S pd dR dT dQ uQ uR (nI rho))) (aj_In 8 ad) RX0 (by decide) rfl (Nat.le_of_ble_eq_true rfl) (fun v H h => aj_nI rfl v) ?_
  intro p e s m args below meth c ls Q F hK hP hl hret
  obtain ⟨hx, hb, hml, hown, hts⟩ := id F
  have hP : va_P D aj_cl (aj_cW ad d N S pd dR dT dQ uQ uR (nI rho)) s.heap := hP
  have hS : va_S (aj_In 8 ad) s.heap s.heap [] := va_S.rf
  have hl : lv_has ls 7 [(0, .ref (ad 0)), (1, .int (nI i)), (2, .int (nI a)), (3, .int (nI sc)), (4, .int (nI k))] := hl
  refine lv_iconst (v := nI 0) hx hb dX0_walk_0 (by decide) ?_
  refine lv_istore (lv' := [(5, .int (nI 0)), (0, .ref (ad 0)), (1, .int (nI i)), (2, .int (nI a)), (3, .int (nI sc)), (4, .int (nI k))]) hx hb dX0_walk_1 hl (by decide) rfl (fun ls hl => ?_)
  have L_3 : ∀ (n_3 : Nat), ∀ (b : Nat) (r1 : Nat), b ≤ 8 → rho = r1 + aj_sm (aj_st G i a sc k) b → 9 ≤ b + n_3 → ∀ (H : Heap) (locs : List Loc), va_P D aj_cl (aj_cW ad d N S pd dR dT dQ uQ uR (nI r1)) H → va_S (aj_In 8 ad) s.heap H locs → ∀ (ls : Array Slot), lv_has ls 7 [(0, .ref (ad 0)), (1, .int (nI i)), (2, .int (nI a)), (3, .int (nI sc)), (4, .int (nI k)), (5, .int (nI b))] → W p l e (aj_rm 1) s m args below meth c H locs 0 0 Q (F0 m 3 ls []) := by
    intro n_3
    induction n_3 with
    | zero =>
      intro b r1 hb9 hr hfu H locs hP hS ls hl
      exfalso; omega
    | succ n_3 ih_3 =>
      intro b r1 hb9 hr hfu H locs hP hS ls hl
      refine lv_iload hx hb dX0_walk_3 (lv_at hl 5 rfl) ?_
      refine lv_bipush (v := nI 8) hx hb dX0_walk_5 (by decide) ?_
      refine aj_ge (tgt := 85) hx hb (by omega) (by decide) dX0_walk_7 (by decide) (fun c_7 => ?_) (fun c_7 => ?_)
      ·
        refine lv_bipush (v := (-4)) hx hb dX0_walk_85 (by decide) ?_
        exact hret ((-4)) _ _ _ _ dX0_walk_87 hS (Or.inr ⟨rfl, r1, by rw [show b = 8 by omega] at hr; exact hr, hP⟩)
      ·
        refine lv_aload_n hx hb dX0_walk_10 rfl (lv_at hl 0 rfl) ?_
        refine lv_iload_n hx hb dX0_walk_11 rfl (lv_at hl 1 rfl) ?_
        refine lv_iload_n hx hb dX0_walk_12 rfl (lv_at hl 2 rfl) ?_
        refine lv_iload hx hb dX0_walk_13 (lv_at hl 5 rfl) ?_
        refine aj_callR (As := [.int (nI i), .int (nI a), .int (nI b)]) (rest := []) F (aj_there l hG h1 h2 (by omega)) aj_gX0_X0_there aj_hX0_there (aj_rmR (by decide) (by decide)) rfl rfl hK hP (va_recv (q0 := 0) hK hP (ci := 0) rfl rfl) rfl hl.1 rfl (Nat.le_of_ble_eq_true rfl) ⟨Nat.zero_le _, Nat.zero_le _⟩ dX0_walk_15 ?_
        refine aj_ifeqB (tgt := 79) hx hb dX0_walk_18 (by decide) (fun c_18 => ?_) (fun c_18 => ?_)
        ·
          refine lv_iinc (v := nI (b + 1)) (lv' := [(5, .int (nI (b + 1))), (0, .ref (ad 0)), (1, .int (nI i)), (2, .int (nI a)), (3, .int (nI sc)), (4, .int (nI k))]) hx hb dX0_walk_79 hl (k := 5) rfl (nI_add b 1) (by decide) rfl (fun ls hl => ?_)
          refine lv_goto (tgt := 3) hx hb dX0_walk_82 (by decide) ?_
          exact ih_3 (b + 1) r1 (by omega) (by first | (have h9 : aj_st G i a sc k b = 0 := (by simp [aj_st, c_18]); rw [aj_sm_s]; omega) | (have h9 : aj_st G i a sc k b = sc * aj_kv G k b := (by simp [aj_st, c_18]); rw [aj_sm_s]; omega)) (by omega) _ _ hP hS _ (lv_sub hl [1, 2, 3, 4, 5, 0] rfl)
        ·
          refine lv_iload_n hx hb dX0_walk_21 rfl (lv_at hl 3 rfl) ?_
          refine lv_iload hx hb dX0_walk_22 (lv_at hl 4 rfl) ?_
          refine aj_ifne (tgt := 36) hx hb (by omega) dX0_walk_24 (by decide) (fun c_24 => ?_) (fun c_24 => ?_)
          ·
            refine lv_iload hx hb dX0_walk_36 (lv_at hl 4 rfl) ?_
            refine lv_iconst (v := nI 1) hx hb dX0_walk_38 (by decide) ?_
            refine aj_ne (tgt := 52) hx hb (by omega) (by decide) dX0_walk_39 (by decide) (fun c_39 => ?_) (fun c_39 => ?_)
            ·
              refine lv_iconst (v := nI 1) hx hb dX0_walk_52 (by decide) ?_
              refine aj_imul hx hb dX0_walk_53 ?_
              refine aj_top (y := nI (sc * aj_kv G k b)) (congrArg nI (by first | (rw [c_24]; rfl) | (rw [c_39]; rfl) | (rw [show k = 2 by omega]; rfl))) ?_
              refine lv_istore (lv' := [(6, .int (nI (sc * aj_kv G k b))), (0, .ref (ad 0)), (1, .int (nI i)), (2, .int (nI a)), (3, .int (nI sc)), (4, .int (nI k)), (5, .int (nI b))]) hx hb dX0_walk_54 hl (by decide) rfl (fun ls hl => ?_)
              refine lv_aload_n hx hb dX0_walk_56 rfl (lv_at hl 1 rfl) ?_
              refine va_get (D := D) (ci := 0) (v := .int (nI r1)) (C := RX0) (T := TX0) (N := 9) hx hb hts in_X0 hown hK hP 0 rfl rfl 8 (by decide) (hts _ q40) (fun _ h9 => h9) rfl dX0_walk_57 ?_
              refine lv_iload hx hb dX0_walk_60 (lv_at hl 0 rfl) ?_
              refine aj_ge (tgt := 68) hx hb (by omega) (aj_scv h3) dX0_walk_62 (by decide) (fun c_62 => ?_) (fun c_62 => ?_)
              ·
                refine lv_aload_n hx hb dX0_walk_68 rfl (lv_at hl 1 rfl) ?_
                refine lv_aload_n hx hb dX0_walk_69 rfl (lv_at hl 1 rfl) ?_
                refine va_get (D := D) (ci := 0) (v := .int (nI r1)) (C := RX0) (T := TX0) (N := 9) hx hb hts in_X0 hown hK hP 0 rfl rfl 8 (by decide) (hts _ q40) (fun _ h9 => h9) rfl dX0_walk_70 ?_
                refine lv_iload hx hb dX0_walk_73 (lv_at hl 0 rfl) ?_
                refine aj_isub hx hb c_62 dX0_walk_75 ?_
                refine va_put (D := D) (ci := 0) (v := .int (nI (r1 - (sc * aj_kv G k b)))) (ty := .int) (C := RX0) (T := TX0) (N := 9) hx hb hts in_X0 tyX0 tyX0_ok nmX0 hown hK hP (aj_cD hap) hS 0 rfl rfl 8 (by decide) (hts _ q40) (fun _ h9 => h9) rfl (by decide +kernel) rfl rfl (Nat.le_of_ble_eq_true rfl) dX0_walk_76 (fun H locs hP _ hS => ?_)
                have hP : va_P D aj_cl (aj_cW ad d N S pd dR dT dQ uQ uR (nI (r1 - (sc * aj_kv G k b)))) H := hP
                refine lv_iinc (v := nI (b + 1)) (lv' := [(5, .int (nI (b + 1))), (6, .int (nI (sc * aj_kv G k b))), (0, .ref (ad 0)), (1, .int (nI i)), (2, .int (nI a)), (3, .int (nI sc)), (4, .int (nI k))]) hx hb dX0_walk_79 hl (k := 6) rfl (nI_add b 1) (by decide) rfl (fun ls hl => ?_)
                refine lv_goto (tgt := 3) hx hb dX0_walk_82 (by decide) ?_
                exact ih_3 (b + 1) (r1 - (sc * aj_kv G k b)) (by omega) (by first | (have h9 : aj_st G i a sc k b = 0 := (by simp [aj_st, c_18]); rw [aj_sm_s]; omega) | (have h9 : aj_st G i a sc k b = sc * aj_kv G k b := (by simp [aj_st, c_18]); rw [aj_sm_s]; omega)) (by omega) _ _ hP hS _ (lv_sub hl [2, 3, 4, 5, 6, 0] rfl)
              ·
                refine lv_iload hx hb dX0_walk_65 (lv_at hl 6 rfl) ?_
                exact hret (nI b) _ _ _ _ dX0_walk_67 hS (Or.inl ⟨b, r1, by omega, c_18, hr, c_62, rfl, hP⟩)
            ·
              refine lv_aload_n hx hb dX0_walk_42 rfl (lv_at hl 0 rfl) ?_
              refine va_get (D := D) (ci := 0) (v := .ref (ad 3)) (C := RX0) (T := TX0) (N := 9) hx hb hts in_X0 hown hK hP 0 rfl rfl 3 (by decide) (hts _ q35) (fun _ h9 => h9) rfl dX0_walk_43 ?_
              refine lv_iload hx hb dX0_walk_46 (lv_at hl 5 rfl) ?_
              refine aj_iald (y := nI (aj_cR G b)) hx hb hK hP 3 0 rfl rfl (by omega) (by decide) (hC.R (by omega)) dX0_walk_48 ?_
              refine lv_goto (tgt := 53) hx hb dX0_walk_49 (by decide) ?_
              refine aj_imul hx hb dX0_walk_53 ?_
              refine aj_top (y := nI (sc * aj_kv G k b)) (congrArg nI (by first | (rw [c_24]; rfl) | (rw [c_39]; rfl) | (rw [show k = 2 by omega]; rfl))) ?_
              refine lv_istore (lv' := [(6, .int (nI (sc * aj_kv G k b))), (0, .ref (ad 0)), (1, .int (nI i)), (2, .int (nI a)), (3, .int (nI sc)), (4, .int (nI k)), (5, .int (nI b))]) hx hb dX0_walk_54 hl (by decide) rfl (fun ls hl => ?_)
              refine lv_aload_n hx hb dX0_walk_56 rfl (lv_at hl 1 rfl) ?_
              refine va_get (D := D) (ci := 0) (v := .int (nI r1)) (C := RX0) (T := TX0) (N := 9) hx hb hts in_X0 hown hK hP 0 rfl rfl 8 (by decide) (hts _ q40) (fun _ h9 => h9) rfl dX0_walk_57 ?_
              refine lv_iload hx hb dX0_walk_60 (lv_at hl 0 rfl) ?_
              refine aj_ge (tgt := 68) hx hb (by omega) (aj_scv h3) dX0_walk_62 (by decide) (fun c_62 => ?_) (fun c_62 => ?_)
              ·
                refine lv_aload_n hx hb dX0_walk_68 rfl (lv_at hl 1 rfl) ?_
                refine lv_aload_n hx hb dX0_walk_69 rfl (lv_at hl 1 rfl) ?_
                refine va_get (D := D) (ci := 0) (v := .int (nI r1)) (C := RX0) (T := TX0) (N := 9) hx hb hts in_X0 hown hK hP 0 rfl rfl 8 (by decide) (hts _ q40) (fun _ h9 => h9) rfl dX0_walk_70 ?_
                refine lv_iload hx hb dX0_walk_73 (lv_at hl 0 rfl) ?_
                refine aj_isub hx hb c_62 dX0_walk_75 ?_
                refine va_put (D := D) (ci := 0) (v := .int (nI (r1 - (sc * aj_kv G k b)))) (ty := .int) (C := RX0) (T := TX0) (N := 9) hx hb hts in_X0 tyX0 tyX0_ok nmX0 hown hK hP (aj_cD hap) hS 0 rfl rfl 8 (by decide) (hts _ q40) (fun _ h9 => h9) rfl (by decide +kernel) rfl rfl (Nat.le_of_ble_eq_true rfl) dX0_walk_76 (fun H locs hP _ hS => ?_)
                have hP : va_P D aj_cl (aj_cW ad d N S pd dR dT dQ uQ uR (nI (r1 - (sc * aj_kv G k b)))) H := hP
                refine lv_iinc (v := nI (b + 1)) (lv' := [(5, .int (nI (b + 1))), (6, .int (nI (sc * aj_kv G k b))), (0, .ref (ad 0)), (1, .int (nI i)), (2, .int (nI a)), (3, .int (nI sc)), (4, .int (nI k))]) hx hb dX0_walk_79 hl (k := 6) rfl (nI_add b 1) (by decide) rfl (fun ls hl => ?_)
                refine lv_goto (tgt := 3) hx hb dX0_walk_82 (by decide) ?_
                exact ih_3 (b + 1) (r1 - (sc * aj_kv G k b)) (by omega) (by first | (have h9 : aj_st G i a sc k b = 0 := (by simp [aj_st, c_18]); rw [aj_sm_s]; omega) | (have h9 : aj_st G i a sc k b = sc * aj_kv G k b := (by simp [aj_st, c_18]); rw [aj_sm_s]; omega)) (by omega) _ _ hP hS _ (lv_sub hl [2, 3, 4, 5, 6, 0] rfl)
              ·
                refine lv_iload hx hb dX0_walk_65 (lv_at hl 6 rfl) ?_
                exact hret (nI b) _ _ _ _ dX0_walk_67 hS (Or.inl ⟨b, r1, by omega, c_18, hr, c_62, rfl, hP⟩)
          ·
            refine lv_aload_n hx hb dX0_walk_27 rfl (lv_at hl 0 rfl) ?_
            refine lv_iload hx hb dX0_walk_28 (lv_at hl 5 rfl) ?_
            refine aj_callR (As := [.int (nI b)]) (rest := [.int (nI sc)]) F (aj_behind l hC (by omega)) aj_gX0_X0_behind aj_hX0_behind (aj_rmR (by decide) (by decide)) rfl rfl hK hP (va_recv (q0 := 0) hK hP (ci := 0) rfl rfl) rfl hl.1 rfl (Nat.le_of_ble_eq_true rfl) ⟨Nat.zero_le _, Nat.zero_le _⟩ dX0_walk_30 ?_
            refine lv_goto (tgt := 53) hx hb dX0_walk_33 (by decide) ?_
            refine aj_imul hx hb dX0_walk_53 ?_
            refine aj_top (y := nI (sc * aj_kv G k b)) (congrArg nI (by first | (rw [c_24]; rfl) | (rw [c_39]; rfl) | (rw [show k = 2 by omega]; rfl))) ?_
            refine lv_istore (lv' := [(6, .int (nI (sc * aj_kv G k b))), (0, .ref (ad 0)), (1, .int (nI i)), (2, .int (nI a)), (3, .int (nI sc)), (4, .int (nI k)), (5, .int (nI b))]) hx hb dX0_walk_54 hl (by decide) rfl (fun ls hl => ?_)
            refine lv_aload_n hx hb dX0_walk_56 rfl (lv_at hl 1 rfl) ?_
            refine va_get (D := D) (ci := 0) (v := .int (nI r1)) (C := RX0) (T := TX0) (N := 9) hx hb hts in_X0 hown hK hP 0 rfl rfl 8 (by decide) (hts _ q40) (fun _ h9 => h9) rfl dX0_walk_57 ?_
            refine lv_iload hx hb dX0_walk_60 (lv_at hl 0 rfl) ?_
            refine aj_ge (tgt := 68) hx hb (by omega) (aj_scv h3) dX0_walk_62 (by decide) (fun c_62 => ?_) (fun c_62 => ?_)
            ·
              refine lv_aload_n hx hb dX0_walk_68 rfl (lv_at hl 1 rfl) ?_
              refine lv_aload_n hx hb dX0_walk_69 rfl (lv_at hl 1 rfl) ?_
              refine va_get (D := D) (ci := 0) (v := .int (nI r1)) (C := RX0) (T := TX0) (N := 9) hx hb hts in_X0 hown hK hP 0 rfl rfl 8 (by decide) (hts _ q40) (fun _ h9 => h9) rfl dX0_walk_70 ?_
              refine lv_iload hx hb dX0_walk_73 (lv_at hl 0 rfl) ?_
              refine aj_isub hx hb c_62 dX0_walk_75 ?_
              refine va_put (D := D) (ci := 0) (v := .int (nI (r1 - (sc * aj_kv G k b)))) (ty := .int) (C := RX0) (T := TX0) (N := 9) hx hb hts in_X0 tyX0 tyX0_ok nmX0 hown hK hP (aj_cD hap) hS 0 rfl rfl 8 (by decide) (hts _ q40) (fun _ h9 => h9) rfl (by decide +kernel) rfl rfl (Nat.le_of_ble_eq_true rfl) dX0_walk_76 (fun H locs hP _ hS => ?_)
              have hP : va_P D aj_cl (aj_cW ad d N S pd dR dT dQ uQ uR (nI (r1 - (sc * aj_kv G k b)))) H := hP
              refine lv_iinc (v := nI (b + 1)) (lv' := [(5, .int (nI (b + 1))), (6, .int (nI (sc * aj_kv G k b))), (0, .ref (ad 0)), (1, .int (nI i)), (2, .int (nI a)), (3, .int (nI sc)), (4, .int (nI k))]) hx hb dX0_walk_79 hl (k := 6) rfl (nI_add b 1) (by decide) rfl (fun ls hl => ?_)
              refine lv_goto (tgt := 3) hx hb dX0_walk_82 (by decide) ?_
              exact ih_3 (b + 1) (r1 - (sc * aj_kv G k b)) (by omega) (by first | (have h9 : aj_st G i a sc k b = 0 := (by simp [aj_st, c_18]); rw [aj_sm_s]; omega) | (have h9 : aj_st G i a sc k b = sc * aj_kv G k b := (by simp [aj_st, c_18]); rw [aj_sm_s]; omega)) (by omega) _ _ hP hS _ (lv_sub hl [2, 3, 4, 5, 6, 0] rfl)
            ·
              refine lv_iload hx hb dX0_walk_65 (lv_at hl 6 rfl) ?_
              exact hret (nI b) _ _ _ _ dX0_walk_67 hS (Or.inl ⟨b, r1, by omega, c_18, hr, c_62, rfl, hP⟩)
  exact L_3 9 0 rho (by omega) rfl (by omega) _ _ hP hS _ (lv_sub hl [1, 2, 3, 4, 5, 0] rfl)

set_option maxHeartbeats 4000000 in
set_option maxRecDepth 100000 in
theorem aj_C_answer_miss (l : Launch) {D : va_G} {ad : Nat → Nat} {d : ClassId} {G : aj_T} {S : Nat → Int32} (hap : aj_Ap 8 ad) {x : Int32} (h1 : x < 0 ∨ nI (aj_cnt G) ≤ x) : aj_MW l yX0_answer cX0_answer 8 .int 3 D [(d, .int)] [.ref (ad 0), .int x] (aj_CC D ad d G S) (aj_PV (-4) (aj_CC D ad d G S)) (aj_In 8 ad) := by
  refine aj_rw (Post := aj_PV (-4) (aj_CC D ad d G S)) (pre := (aj_CC D ad d G S)) (aj_In 8 ad) RX0 (by decide) rfl (Nat.le_of_ble_eq_true rfl) (fun v H h => aj_nI rfl v) ?_
  intro p e s m args below meth c ls Q F hK hP hl hret
  obtain ⟨hx, hb, hml, hown, hts⟩ := id F
  have hS : va_S (aj_In 8 ad) s.heap s.heap [] := va_S.rf
  have hl : lv_has ls 8 [(0, .ref (ad 0)), (1, .int x)] := hl
  obtain ⟨N, pb, dR, dT, dQ, uQ, uR, re, hG, hC, hP⟩ := hP
  refine lv_aload_n hx hb dX0_answer_0 rfl (lv_at hl 0 rfl) ?_
  refine aj_callW (A := aj_In 8 ad) (As := []) (rest := []) F (aj_C_count l hap) aj_gX0_X0_count aj_hX0_count (aj_rmR (by decide) (by decide)) rfl rfl hK (show aj_CC D ad d G S _ from ⟨N, pb, dR, dT, dQ, uQ, uR, re, hG, hC, hP⟩) (va_recv (q0 := 0) hK hP (ci := 0) rfl rfl) rfl hl.1 rfl (Nat.le_of_ble_eq_true rfl) ⟨Nat.zero_le _, Nat.zero_le _⟩ dX0_answer_1 hS (fun _ h => h) (fun r_1 H locs hB _ _ hS => ?_)
  obtain ⟨rfl, N, dR, dT, dQ, uQ, uR, re, hG, hC, hP⟩ := hB
  refine lv_istore_n (lv' := [(2, .int (nI (aj_cnt G))), (0, .ref (ad 0)), (1, .int x)]) hx hb dX0_answer_4 rfl hl (by decide) rfl (fun ls hl => ?_)
  refine lv_iload_n hx hb dX0_answer_5 rfl (lv_at hl 2 rfl) ?_
  refine lv_if_lt (tgt := 14) hx hb dX0_answer_6 (by decide) (fun c_6 => ?_) (fun c_6 => ?_)
  ·
    refine lv_bipush (v := (-4)) hx hb dX0_answer_14 (by decide) ?_
    exact hret ((-4)) _ _ _ _ dX0_answer_16 hS (⟨rfl, N, true, dR, dT, dQ, uQ, uR, re, hG, fun _ => hC, hP⟩)
  ·
    refine lv_iload_n hx hb dX0_answer_9 rfl (lv_at hl 2 rfl) ?_
    refine lv_iload_n hx hb dX0_answer_10 rfl (lv_at hl 0 rfl) ?_
    refine lv_icmp_lt (tgt := 17) hx hb dX0_answer_11 (by decide) (fun c_11 => ?_) (fun c_11 => ?_)
    ·
      exact absurd c_11 (Int32.not_lt.mpr (h1.resolve_left c_6))
    ·
      refine lv_bipush (v := (-4)) hx hb dX0_answer_14 (by decide) ?_
      exact hret ((-4)) _ _ _ _ dX0_answer_16 hS (⟨rfl, N, true, dR, dT, dQ, uQ, uR, re, hG, fun _ => hC, hP⟩)

set_option maxHeartbeats 4000000 in
set_option maxRecDepth 100000 in
theorem aj_C_answer_hit (l : Launch) {D : va_G} {ad : Nat → Nat} {d : ClassId} {G : aj_T} {S : Nat → Int32} (hap : aj_Ap 8 ad) {kap : Nat} (h1 : kap < aj_cnt G) : aj_MW l yX0_answer cX0_answer 8 .int 3 D [(d, .int)] [.ref (ad 0), .int (nI kap)] (aj_CC D ad d G S) (aj_PA G kap (aj_CC D ad d G S)) (aj_In 8 ad) := by
  refine aj_rw (Post := aj_PA G kap (aj_CC D ad d G S)) (pre := (aj_CC D ad d G S)) (aj_In 8 ad) RX0 (by decide) rfl (Nat.le_of_ble_eq_true rfl) (fun v H h => aj_nI rfl v) ?_
  intro p e s m args below meth c ls Q F hK hP hl hret
  obtain ⟨hx, hb, hml, hown, hts⟩ := id F
  have hS : va_S (aj_In 8 ad) s.heap s.heap [] := va_S.rf
  have hl : lv_has ls 8 [(0, .ref (ad 0)), (1, .int (nI kap))] := hl
  obtain ⟨N, pb, dR, dT, dQ, uQ, uR, re, hG, hC, hP⟩ := hP
  have hcl := aj_cnt_le G
  refine lv_aload_n hx hb dX0_answer_0 rfl (lv_at hl 0 rfl) ?_
  refine aj_callW (A := aj_In 8 ad) (As := []) (rest := []) F (aj_C_count l hap) aj_gX0_X0_count aj_hX0_count (aj_rmR (by decide) (by decide)) rfl rfl hK (show aj_CC D ad d G S _ from ⟨N, pb, dR, dT, dQ, uQ, uR, re, hG, hC, hP⟩) (va_recv (q0 := 0) hK hP (ci := 0) rfl rfl) rfl hl.1 rfl (Nat.le_of_ble_eq_true rfl) ⟨Nat.zero_le _, Nat.zero_le _⟩ dX0_answer_1 hS (fun _ h => h) (fun r_1 H locs hB _ _ hS => ?_)
  obtain ⟨rfl, N, dR, dT, dQ, uQ, uR, re, hG, hC, hP⟩ := hB
  refine lv_istore_n (lv' := [(2, .int (nI (aj_cnt G))), (0, .ref (ad 0)), (1, .int (nI kap))]) hx hb dX0_answer_4 rfl hl (by decide) rfl (fun ls hl => ?_)
  refine lv_iload_n hx hb dX0_answer_5 rfl (lv_at hl 2 rfl) ?_
  refine aj_iflt (tgt := 14) hx hb (by omega) dX0_answer_6 (by decide) ?_
  refine lv_iload_n hx hb dX0_answer_9 rfl (lv_at hl 2 rfl) ?_
  refine lv_iload_n hx hb dX0_answer_10 rfl (lv_at hl 0 rfl) ?_
  refine aj_lt (tgt := 17) hx hb (by omega) (Nat.lt_of_le_of_lt (aj_cnt_le G) (by decide)) dX0_answer_11 (by decide) (fun c_11 => ?_) (fun c_11 => ?_)
  ·
    have hcl := aj_cnt_le G
    refine lv_aload_n hx hb dX0_answer_17 rfl (lv_at hl 1 rfl) ?_
    refine lv_iload_n hx hb dX0_answer_18 rfl (lv_at hl 2 rfl) ?_
    refine va_put (D := D) (ci := 0) (v := .int (nI kap)) (ty := .int) (C := RX0) (T := TX0) (N := 9) hx hb hts in_X0 tyX0 tyX0_ok nmX0 hown hK hP (aj_cD hap) hS 0 rfl rfl 8 (by decide) (hts _ q40) (fun _ h9 => h9) rfl (by decide +kernel) rfl rfl (Nat.le_of_ble_eq_true rfl) dX0_answer_19 (fun H locs hP _ hS => ?_)
    have hP : va_P D aj_cl (aj_cW ad d N S (nI 1) dR dT dQ uQ uR (nI kap)) H := hP
    refine lv_iconst (v := nI 0) hx hb dX0_answer_22 (by decide) ?_
    refine lv_istore_n (lv' := [(3, .int (nI 0)), (2, .int (nI (aj_cnt G))), (0, .ref (ad 0)), (1, .int (nI kap))]) hx hb dX0_answer_23 rfl hl (by decide) rfl (fun ls hl => ?_)
    refine lv_bipush (v := (-4)) hx hb dX0_answer_24 (by decide) ?_
    refine lv_istore (lv' := [(4, .int (-4)), (3, .int (nI 0)), (2, .int (nI (aj_cnt G))), (0, .ref (ad 0)), (1, .int (nI kap))]) hx hb dX0_answer_26 hl (by decide) rfl (fun ls hl => ?_)
    have K_63 : ∀ (vp : Nat) (vq : Nat) (r1 : Nat), vp < 8 → vq < 8 → G 0 vp vq = true → r1 < aj_be G vq → kap = aj_sm (aj_row0 G) vp + aj_sm (aj_st G 0 vp 1 0) vq + r1 → ∀ (H : Heap) (locs : List Loc), va_P D aj_cl (aj_cW ad d N S (nI 1) dR dT dQ uQ uR (nI r1)) H → va_S (aj_In 8 ad) s.heap H locs → ∀ (ls : Array Slot), lv_has ls 8 [(0, .ref (ad 0)), (3, .int (nI vp)), (4, .int (nI vq))] → W p l e (aj_rm 3) s m args below meth c H locs 0 0 Q (F0 m 63 ls []) := by
      intro vp vq r1 hp8 hq8 hgq hrl hka H locs hP hS ls hl
      have hbl := aj_be_le G vq
      refine lv_aload_n hx hb dX0_answer_63 rfl (lv_at hl 0 rfl) ?_
      refine lv_iconst (v := nI 1) hx hb dX0_answer_64 (by decide) ?_
      refine lv_iload hx hb dX0_answer_65 (lv_at hl 2 rfl) ?_
      refine lv_aload_n hx hb dX0_answer_67 rfl (lv_at hl 0 rfl) ?_
      refine va_get (D := D) (ci := 0) (v := .ref (ad 4)) (C := RX0) (T := TX0) (N := 9) hx hb hts in_X0 hown hK hP 0 rfl rfl 4 (by decide) (hts _ q36) (fun _ h9 => h9) rfl dX0_answer_68 ?_
      refine lv_iload hx hb dX0_answer_71 (lv_at hl 2 rfl) ?_
      refine aj_iald (y := nI (aj_cT G vq)) hx hb hK hP 4 0 rfl rfl (by omega) (by decide) (hC.T hq8) dX0_answer_73 ?_
      refine lv_iconst (v := nI 1) hx hb dX0_answer_74 (by decide) ?_
      refine aj_callW (A := aj_In 8 ad) (As := [.int (nI 1), .int (nI vq), .int (nI (aj_cT G vq)), .int (nI 1)]) (rest := []) F (aj_walk l hap hG hC (i := 1) (a := vq) (sc := aj_cT G vq) (k := 1) (rho := r1) (by decide) hq8 (aj_cT_le G vq) (by decide) (by omega)) aj_gX0_X0_walk aj_hX0_walk (aj_rmR (by decide) (by decide)) rfl rfl hK hP (va_recv (q0 := 0) hK hP (ci := 0) rfl rfl) rfl hl.1 rfl (Nat.le_of_ble_eq_true rfl) ⟨Nat.zero_le _, Nat.zero_le _⟩ dX0_answer_75 hS (fun _ h => h) (fun r_75 H locs hB _ _ hS => ?_)
      rcases hB with ⟨vr, r2, hl_vr, hg_vr, hr_vr, hs_vr, rfl, hP⟩ | ⟨rfl, r2, hr_vr, hP⟩
      ·
        refine lv_istore (lv' := [(5, .int (nI vr)), (0, .ref (ad 0)), (3, .int (nI vp)), (4, .int (nI vq))]) hx hb dX0_answer_78 hl (by decide) rfl (fun ls hl => ?_)
        refine lv_aload_n hx hb dX0_answer_80 rfl (lv_at hl 1 rfl) ?_
        refine lv_iconst (v := nI 2) hx hb dX0_answer_81 (by decide) ?_
        refine lv_iload hx hb dX0_answer_82 (lv_at hl 0 rfl) ?_
        refine lv_aload_n hx hb dX0_answer_84 rfl (lv_at hl 1 rfl) ?_
        refine va_get (D := D) (ci := 0) (v := .ref (ad 4)) (C := RX0) (T := TX0) (N := 9) hx hb hts in_X0 hown hK hP 0 rfl rfl 4 (by decide) (hts _ q36) (fun _ h9 => h9) rfl dX0_answer_85 ?_
        refine lv_iload hx hb dX0_answer_88 (lv_at hl 3 rfl) ?_
        refine aj_iald (y := nI (aj_cT G vq)) hx hb hK hP 4 0 rfl rfl (by omega) (by decide) (hC.T hq8) dX0_answer_90 ?_
        refine lv_iconst (v := nI 2) hx hb dX0_answer_91 (by decide) ?_
        refine aj_callW (A := aj_In 8 ad) (As := [.int (nI 2), .int (nI vr), .int (nI (aj_cT G vq)), .int (nI 2)]) (rest := []) F (aj_walk l hap hG hC (i := 2) (a := vr) (sc := aj_cT G vq) (k := 2) (rho := r2) (by decide) hl_vr (aj_cT_le G vq) (by decide) (by omega)) aj_gX0_X0_walk aj_hX0_walk (aj_rmR (by decide) (by decide)) rfl rfl hK hP (va_recv (q0 := 0) hK hP (ci := 0) rfl rfl) rfl hl.1 rfl (Nat.le_of_ble_eq_true rfl) ⟨Nat.zero_le _, Nat.zero_le _⟩ dX0_answer_92 hS (fun _ h => h) (fun r_92 H locs hB _ _ hS => ?_)
        rcases hB with ⟨vs, r3, hl_vs, hg_vs, hr_vs, hs_vs, rfl, hP⟩ | ⟨rfl, r3, hr_vs, hP⟩
        ·
          refine lv_istore (lv' := [(6, .int (nI vs)), (5, .int (nI vr)), (0, .ref (ad 0)), (3, .int (nI vp)), (4, .int (nI vq))]) hx hb dX0_answer_95 hl (by decide) rfl (fun ls hl => ?_)
          refine lv_aload_n hx hb dX0_answer_97 rfl (lv_at hl 2 rfl) ?_
          refine lv_iconst (v := nI 3) hx hb dX0_answer_98 (by decide) ?_
          refine lv_iload hx hb dX0_answer_99 (lv_at hl 4 rfl) ?_
          refine lv_iconst (v := nI 1) hx hb dX0_answer_101 (by decide) ?_
          refine lv_iconst (v := nI 2) hx hb dX0_answer_102 (by decide) ?_
          refine aj_callW (A := aj_In 8 ad) (As := [.int (nI 3), .int (nI vq), .int (nI 1), .int (nI 2)]) (rest := []) F (aj_walk l hap hG hC (i := 3) (a := vq) (sc := 1) (k := 2) (rho := r3) (by decide) hq8 (by decide) (by decide) (by omega)) aj_gX0_X0_walk aj_hX0_walk (aj_rmR (by decide) (by decide)) rfl rfl hK hP (va_recv (q0 := 0) hK hP (ci := 0) rfl rfl) rfl hl.1 rfl (Nat.le_of_ble_eq_true rfl) ⟨Nat.zero_le _, Nat.zero_le _⟩ dX0_answer_103 hS (fun _ h => h) (fun r_103 H locs hB _ _ hS => ?_)
          rcases hB with ⟨vt, r4, hl_vt, hg_vt, hr_vt, hs_vt, rfl, hP⟩ | ⟨rfl, r4, hr_vt, hP⟩
          ·
            refine lv_istore (lv' := [(7, .int (nI vt)), (6, .int (nI vs)), (5, .int (nI vr)), (0, .ref (ad 0)), (3, .int (nI vp)), (4, .int (nI vq))]) hx hb dX0_answer_106 hl (by decide) rfl (fun ls hl => ?_)
            refine lv_iload_n hx hb dX0_answer_108 rfl (lv_at hl 4 rfl) ?_
            refine lv_bipush (v := nI 8) hx hb dX0_answer_109 (by decide) ?_
            refine lv_iload hx hb dX0_answer_111 (lv_at hl 5 rfl) ?_
            refine aj_imul hx hb dX0_answer_113 ?_
            refine aj_iadd hx hb dX0_answer_114 ?_
            refine lv_bipush (v := nI 64) hx hb dX0_answer_115 (by decide) ?_
            refine lv_iload hx hb dX0_answer_117 (lv_at hl 2 rfl) ?_
            refine aj_imul hx hb dX0_answer_119 ?_
            refine aj_iadd hx hb dX0_answer_120 ?_
            refine lv_sipush (v := nI 512) hx hb dX0_answer_121 (by decide) ?_
            refine lv_iload hx hb dX0_answer_124 (lv_at hl 1 rfl) ?_
            refine aj_imul hx hb dX0_answer_126 ?_
            refine aj_iadd hx hb dX0_answer_127 ?_
            refine lv_sipush (v := nI 4096) hx hb dX0_answer_128 (by decide) ?_
            refine lv_iload hx hb dX0_answer_131 (lv_at hl 0 rfl) ?_
            refine aj_imul hx hb dX0_answer_133 ?_
            refine aj_iadd hx hb dX0_answer_134 ?_
            exact hret (nI ((((vp + (8 * vq)) + (64 * vr)) + (512 * vs)) + (4096 * vt))) _ _ _ _ dX0_answer_135 hS (⟨⟨vp, vq, vr, vs, vt, ⟨⟨hp8, hq8, hl_vr, hl_vs, hl_vt⟩, ⟨hgq, hg_vr, hg_vs, hg_vt⟩, by have h49 : r4 < 1 * 1 := hs_vt; rw [hka, hr_vr, hr_vs, hr_vt]; omega⟩, rfl⟩, N, true, dR, dT, dQ, uQ, uR, _, hG, fun _ => hC, hP⟩)
          ·
            exfalso; rw [aj_st3_8] at hr_vt; have hs9 : r3 < aj_cT G vq * 1 := hs_vs; omega
        ·
          exfalso; rw [aj_st2_8] at hr_vs; have hs9 : r2 < aj_cT G vq * aj_cR G vr := hs_vr; omega
      ·
        exfalso; rw [aj_st1_8] at hr_vr; omega
    refine lv_iconst (v := nI 0) hx hb dX0_answer_28 (by decide) ?_
    refine lv_istore (lv' := [(5, .int (nI 0)), (4, .int (-4)), (3, .int (nI 0)), (2, .int (nI (aj_cnt G))), (0, .ref (ad 0)), (1, .int (nI kap))]) hx hb dX0_answer_29 hl (by decide) rfl (fun ls hl => ?_)
    have L_31 : ∀ (n_31 : Nat), ∀ (a : Nat) (r1 : Nat) (z : Int32), a ≤ 8 → kap = r1 + aj_sm (aj_row0 G) a → 9 ≤ a + n_31 → ∀ (H : Heap) (locs : List Loc), va_P D aj_cl (aj_cW ad d N S (nI 1) dR dT dQ uQ uR (nI r1)) H → va_S (aj_In 8 ad) s.heap H locs → ∀ (ls : Array Slot), lv_has ls 8 [(0, .ref (ad 0)), (1, .int (nI kap)), (2, .int (nI (aj_cnt G))), (3, .int z), (4, .int (-4)), (5, .int (nI a))] → W p l e (aj_rm 3) s m args below meth c H locs 0 0 Q (F0 m 31 ls []) := by
      intro n_31
      induction n_31 with
      | zero =>
        intro a r1 z ha hr hfu H locs hP hS ls hl
        exfalso; omega
      | succ n_31 ih_31 =>
        intro a r1 z ha hr hfu H locs hP hS ls hl
        refine lv_iload hx hb dX0_answer_31 (lv_at hl 5 rfl) ?_
        refine lv_bipush (v := nI 8) hx hb dX0_answer_33 (by decide) ?_
        refine aj_ge (tgt := 63) hx hb (by omega) (by decide) dX0_answer_35 (by decide) (fun c_35 => ?_) (fun c_35 => ?_)
        ·
          exfalso; obtain rfl : a = 8 := (by omega); rw [aj_cnt_row] at h1; omega
        ·
          refine lv_iload hx hb dX0_answer_38 (lv_at hl 4 rfl) ?_
          refine lv_if_ge (tgt := 63) hx hb dX0_answer_40 (by decide) (fun c_40 => ?_) (fun c_40 => ?_)
          ·
            exact absurd c_40 (by decide)
          ·
            have hz9 : True := trivial
            refine lv_aload_n hx hb dX0_answer_43 rfl (lv_at hl 0 rfl) ?_
            refine lv_iconst (v := nI 0) hx hb dX0_answer_44 (by decide) ?_
            refine lv_iload hx hb dX0_answer_45 (lv_at hl 5 rfl) ?_
            refine lv_iconst (v := nI 1) hx hb dX0_answer_47 (by decide) ?_
            refine lv_iconst (v := nI 0) hx hb dX0_answer_48 (by decide) ?_
            refine aj_callW (A := aj_In 8 ad) (As := [.int (nI 0), .int (nI a), .int (nI 1), .int (nI 0)]) (rest := []) F (aj_walk l hap hG hC (i := 0) (a := a) (sc := 1) (k := 0) (rho := r1) (by decide) (by omega) (by decide) (by decide) (by omega)) aj_gX0_X0_walk aj_hX0_walk (aj_rmR (by decide) (by decide)) rfl rfl hK hP (va_recv (q0 := 0) hK hP (ci := 0) rfl rfl) rfl hl.1 rfl (Nat.le_of_ble_eq_true rfl) ⟨Nat.zero_le _, Nat.zero_le _⟩ dX0_answer_49 hS (fun _ h => h) (fun r_49 H locs hB _ _ hS => ?_)
            rcases hB with ⟨vq, r2, hl_vq, hg_vq, hr_vq, hs_vq, rfl, hP⟩ | ⟨rfl, r2, hr_vq, hP⟩
            ·
              refine lv_istore (lv' := [(4, .int (nI vq)), (0, .ref (ad 0)), (1, .int (nI kap)), (2, .int (nI (aj_cnt G))), (3, .int z), (5, .int (nI a))]) hx hb dX0_answer_52 hl (by decide) rfl (fun ls hl => ?_)
              refine lv_iload hx hb dX0_answer_54 (lv_at hl 5 rfl) ?_
              refine lv_istore_n (lv' := [(3, .int (nI a)), (4, .int (nI vq)), (0, .ref (ad 0)), (1, .int (nI kap)), (2, .int (nI (aj_cnt G))), (5, .int (nI a))]) hx hb dX0_answer_56 rfl hl (by decide) rfl (fun ls hl => ?_)
              refine lv_iinc (v := nI (a + 1)) (lv' := [(5, .int (nI (a + 1))), (3, .int (nI a)), (4, .int (nI vq)), (0, .ref (ad 0)), (1, .int (nI kap)), (2, .int (nI (aj_cnt G)))]) hx hb dX0_answer_57 hl (k := 5) rfl (nI_add a 1) (by decide) rfl (fun ls hl => ?_)
              refine lv_goto (tgt := 31) hx hb dX0_answer_60 (by decide) ?_
              refine lv_iload hx hb dX0_answer_31 (lv_at hl 0 rfl) ?_
              refine lv_bipush (v := nI 8) hx hb dX0_answer_33 (by decide) ?_
              refine aj_ge (tgt := 63) hx hb (by omega) (by decide) dX0_answer_35 (by decide) (fun c_35 => ?_) (fun c_35 => ?_)
              ·
                exact K_63 a vq r2 (by omega) hl_vq hg_vq (by have h9 : r2 < 1 * aj_be G vq := hs_vq; omega) (by omega) _ _ hP hS _ (lv_sub hl [3, 1, 2] rfl)
              ·
                refine lv_iload hx hb dX0_answer_38 (lv_at hl 2 rfl) ?_
                refine aj_ifge (tgt := 63) hx hb (by omega) dX0_answer_40 (by decide) ?_
                exact K_63 a vq r2 (by omega) hl_vq hg_vq (by have h9 : r2 < 1 * aj_be G vq := hs_vq; omega) (by omega) _ _ hP hS _ (lv_sub hl [3, 1, 2] rfl)
            ·
              refine lv_istore (lv' := [(4, .int (-4)), (0, .ref (ad 0)), (1, .int (nI kap)), (2, .int (nI (aj_cnt G))), (3, .int z), (5, .int (nI a))]) hx hb dX0_answer_52 hl (by decide) rfl (fun ls hl => ?_)
              refine lv_iload hx hb dX0_answer_54 (lv_at hl 5 rfl) ?_
              refine lv_istore_n (lv' := [(3, .int (nI a)), (4, .int (-4)), (0, .ref (ad 0)), (1, .int (nI kap)), (2, .int (nI (aj_cnt G))), (5, .int (nI a))]) hx hb dX0_answer_56 rfl hl (by decide) rfl (fun ls hl => ?_)
              refine lv_iinc (v := nI (a + 1)) (lv' := [(5, .int (nI (a + 1))), (3, .int (nI a)), (4, .int (-4)), (0, .ref (ad 0)), (1, .int (nI kap)), (2, .int (nI (aj_cnt G)))]) hx hb dX0_answer_57 hl (k := 5) rfl (nI_add a 1) (by decide) rfl (fun ls hl => ?_)
              refine lv_goto (tgt := 31) hx hb dX0_answer_60 (by decide) ?_
              exact ih_31 (a + 1) r2 (nI a) (by omega) (by rw [aj_sm_s]; have h9 : r1 = r2 + aj_row0 G a := hr_vq; omega) (by omega) _ _ hP hS _ (lv_sub hl [3, 4, 5, 1, 2, 0] rfl)
    exact L_31 9 0 kap (nI 0) (by omega) rfl (by omega) _ _ hP hS _ (lv_sub hl [4, 5, 3, 2, 1, 0] rfl)
  ·
    exfalso; omega

set_option maxHeartbeats 4000000 in
set_option maxRecDepth 100000 in
theorem aj_C_rank_ok (l : Launch) {D : va_G} {ad : Nat → Nat} {d : ClassId} {G : aj_T} {S : Nat → Int32} (hap : aj_Ap 8 ad) {k : Nat} (h1 : k < 32768) : aj_MW l yX0_rank cX0_rank 10 .int 2 D [(d, .int)] [.ref (ad 0), .int (nI k)] (aj_CC D ad d G S) (aj_PV (nI (aj_rkV G k)) (aj_CC D ad d G S)) (aj_In 8 ad) := by
  refine aj_rw (Post := aj_PV (nI (aj_rkV G k)) (aj_CC D ad d G S)) (pre := (aj_CC D ad d G S)) (aj_In 8 ad) RX0 (by decide) rfl (Nat.le_of_ble_eq_true rfl) (fun v H h => aj_nI rfl v) ?_
  intro p e s m args below meth c ls Q F hK hP hl hret
  obtain ⟨hx, hb, hml, hown, hts⟩ := id F
  have hS : va_S (aj_In 8 ad) s.heap s.heap [] := va_S.rf
  have hl : lv_has ls 10 [(0, .ref (ad 0)), (1, .int (nI k))] := hl
  obtain ⟨N, pb, dR, dT, dQ, uQ, uR, re, hG, hC, hP⟩ := hP
  refine lv_aload_n hx hb dX0_rank_0 rfl (lv_at hl 0 rfl) ?_
  refine lv_iload_n hx hb dX0_rank_1 rfl (lv_at hl 1 rfl) ?_
  refine aj_callR (As := [.int (nI k)]) (rest := []) F (aj_badCode l) aj_gX0_X0_badCode aj_hX0_badCode (aj_rmR (by decide) (by decide)) rfl rfl hK hP (va_recv (q0 := 0) hK hP (ci := 0) rfl rfl) rfl hl.1 rfl (Nat.le_of_ble_eq_true rfl) ⟨Nat.zero_le _, Nat.zero_le _⟩ dX0_rank_2 ?_
  refine aj_ifeqB (tgt := 10) hx hb dX0_rank_5 (by decide) (fun c_5 => ?_) (fun c_5 => ?_)
  ·
    refine lv_aload_n hx hb dX0_rank_10 rfl (lv_at hl 0 rfl) ?_
    refine aj_callV (A := aj_In 8 ad) (As := []) (rest := []) F (aj_pass l hap hG hC) aj_gX0_X0_pass aj_hX0_pass (aj_rmR (by decide) (by decide)) rfl rfl hK hP (va_recv (q0 := 0) hK hP (ci := 0) rfl rfl) rfl hl.1 rfl (Nat.le_of_ble_eq_true rfl) ⟨Nat.zero_le _, Nat.zero_le _⟩ dX0_rank_11 hS (fun _ h => h) (fun H locs hB _ _ hS => ?_)
    obtain ⟨dR, dT, dQ, uQ, uR, hC, hP⟩ := hB
    refine lv_iload_n hx hb dX0_rank_14 rfl (lv_at hl 1 rfl) ?_
    refine lv_bipush (v := nI 7) hx hb dX0_rank_15 (by decide) ?_
    refine lv_iand hx hb dX0_rank_17 ?_
    refine aj_top (y := nI (k % 8)) (aj_and7 (by omega)) ?_
    refine lv_istore_n (lv' := [(2, .int (nI (k % 8))), (0, .ref (ad 0)), (1, .int (nI k))]) hx hb dX0_rank_18 rfl hl (by decide) rfl (fun ls hl => ?_)
    refine lv_iload_n hx hb dX0_rank_19 rfl (lv_at hl 2 rfl) ?_
    refine lv_iconst (v := nI 3) hx hb dX0_rank_20 (by decide) ?_
    refine lv_ishr hx hb dX0_rank_21 ?_
    refine aj_top (y := nI (k / 8)) (aj_shr3 (by omega)) ?_
    refine lv_bipush (v := nI 7) hx hb dX0_rank_22 (by decide) ?_
    refine lv_iand hx hb dX0_rank_24 ?_
    refine aj_top (y := nI (k / 8 % 8)) (aj_and7 (by omega)) ?_
    refine lv_istore_n (lv' := [(3, .int (nI (k / 8 % 8))), (2, .int (nI (k % 8))), (0, .ref (ad 0)), (1, .int (nI k))]) hx hb dX0_rank_25 rfl hl (by decide) rfl (fun ls hl => ?_)
    refine lv_iload_n hx hb dX0_rank_26 rfl (lv_at hl 3 rfl) ?_
    refine lv_bipush (v := nI 6) hx hb dX0_rank_27 (by decide) ?_
    refine lv_ishr hx hb dX0_rank_29 ?_
    refine aj_top (y := nI (k / 64)) (aj_shr6 (by omega)) ?_
    refine lv_bipush (v := nI 7) hx hb dX0_rank_30 (by decide) ?_
    refine lv_iand hx hb dX0_rank_32 ?_
    refine aj_top (y := nI (k / 64 % 8)) (aj_and7 (by omega)) ?_
    refine lv_istore (lv' := [(4, .int (nI (k / 64 % 8))), (3, .int (nI (k / 8 % 8))), (2, .int (nI (k % 8))), (0, .ref (ad 0)), (1, .int (nI k))]) hx hb dX0_rank_33 hl (by decide) rfl (fun ls hl => ?_)
    refine lv_iload_n hx hb dX0_rank_35 rfl (lv_at hl 4 rfl) ?_
    refine lv_bipush (v := nI 9) hx hb dX0_rank_36 (by decide) ?_
    refine lv_ishr hx hb dX0_rank_38 ?_
    refine aj_top (y := nI (k / 512)) (aj_shr9 (by omega)) ?_
    refine lv_bipush (v := nI 7) hx hb dX0_rank_39 (by decide) ?_
    refine lv_iand hx hb dX0_rank_41 ?_
    refine aj_top (y := nI (k / 512 % 8)) (aj_and7 (by omega)) ?_
    refine lv_istore (lv' := [(5, .int (nI (k / 512 % 8))), (4, .int (nI (k / 64 % 8))), (3, .int (nI (k / 8 % 8))), (2, .int (nI (k % 8))), (0, .ref (ad 0)), (1, .int (nI k))]) hx hb dX0_rank_42 hl (by decide) rfl (fun ls hl => ?_)
    refine lv_iload_n hx hb dX0_rank_44 rfl (lv_at hl 5 rfl) ?_
    refine lv_bipush (v := nI 12) hx hb dX0_rank_45 (by decide) ?_
    refine lv_ishr hx hb dX0_rank_47 ?_
    refine aj_top (y := nI (k / 4096)) (aj_shr12 (by omega)) ?_
    refine lv_istore (lv' := [(6, .int (nI (k / 4096))), (5, .int (nI (k / 512 % 8))), (4, .int (nI (k / 64 % 8))), (3, .int (nI (k / 8 % 8))), (2, .int (nI (k % 8))), (0, .ref (ad 0)), (1, .int (nI k))]) hx hb dX0_rank_48 hl (by decide) rfl (fun ls hl => ?_)
    refine lv_iconst (v := nI 0) hx hb dX0_rank_50 (by decide) ?_
    refine lv_istore (lv' := [(7, .int (nI 0)), (6, .int (nI (k / 4096))), (5, .int (nI (k / 512 % 8))), (4, .int (nI (k / 64 % 8))), (3, .int (nI (k / 8 % 8))), (2, .int (nI (k % 8))), (0, .ref (ad 0)), (1, .int (nI k))]) hx hb dX0_rank_51 hl (by decide) rfl (fun ls hl => ?_)
    refine lv_iconst (v := nI 0) hx hb dX0_rank_53 (by decide) ?_
    refine lv_istore (lv' := [(8, .int (nI 0)), (7, .int (nI 0)), (6, .int (nI (k / 4096))), (5, .int (nI (k / 512 % 8))), (4, .int (nI (k / 64 % 8))), (3, .int (nI (k / 8 % 8))), (2, .int (nI (k % 8))), (0, .ref (ad 0)), (1, .int (nI k))]) hx hb dX0_rank_54 hl (by decide) rfl (fun ls hl => ?_)
    have L_56 : ∀ (n_56 : Nat), ∀ (a : Nat) (y : Int32), y = nI (aj_sm (aj_row0 G) a) → a ≤ k % 8 → k % 8 + 1 ≤ a + n_56 → ∀ (H : Heap) (locs : List Loc), va_P D aj_cl (aj_cW ad d N S (nI 1) dR dT dQ uQ uR re) H → va_S (aj_In 8 ad) s.heap H locs → ∀ (ls : Array Slot), lv_has ls 10 [(0, .ref (ad 0)), (2, .int (nI (k % 8))), (3, .int (nI (k / 8 % 8))), (4, .int (nI (k / 64 % 8))), (5, .int (nI (k / 512 % 8))), (6, .int (nI (k / 4096))), (7, .int y), (8, .int (nI a))] → W p l e (aj_rm 2) s m args below meth c H locs 0 0 Q (F0 m 56 ls []) := by
      intro n_56
      induction n_56 with
      | zero =>
        intro a y e_y ha hfu H locs hP hS ls hl
        exfalso; omega
      | succ n_56 ih_56 =>
        intro a y e_y ha hfu H locs hP hS ls hl
        subst e_y
        refine lv_iload hx hb dX0_rank_56 (lv_at hl 7 rfl) ?_
        refine lv_iload_n hx hb dX0_rank_58 rfl (lv_at hl 1 rfl) ?_
        refine aj_ge (tgt := 88) hx hb (by omega) (by omega) dX0_rank_59 (by decide) (fun c_59 => ?_) (fun c_59 => ?_)
        ·
          obtain ⟨ea⟩ : Nonempty (a = k % 8) := ⟨by omega⟩
          refine lv_aload_n hx hb dX0_rank_88 rfl (lv_at hl 0 rfl) ?_
          refine lv_iconst (v := nI 0) hx hb dX0_rank_89 (by decide) ?_
          refine lv_iload_n hx hb dX0_rank_90 rfl (lv_at hl 1 rfl) ?_
          refine lv_iload_n hx hb dX0_rank_91 rfl (lv_at hl 2 rfl) ?_
          refine lv_iconst (v := nI 1) hx hb dX0_rank_92 (by decide) ?_
          refine lv_iconst (v := nI 0) hx hb dX0_rank_93 (by decide) ?_
          refine aj_callR (As := [.int (nI 0), .int (nI (k % 8)), .int (nI (k / 8 % 8)), .int (nI 1), .int (nI 0)]) (rest := []) F (aj_below l hG hC (i := 0) (a := k % 8) (bo := k / 8 % 8) (sc := 1) (k := 0) (by decide) (by omega) (by omega) (by decide)) aj_gX0_X0_below aj_hX0_below (aj_rmR (by decide) (by decide)) rfl rfl hK hP (va_recv (q0 := 0) hK hP (ci := 0) rfl rfl) rfl hl.1 rfl (Nat.le_of_ble_eq_true rfl) ⟨Nat.zero_le _, Nat.zero_le _⟩ dX0_rank_94 ?_
          refine lv_istore (lv' := [(8, .int (nI (aj_sm (aj_st G 0 (k % 8) (1) 0) (k / 8 % 8)))), (0, .ref (ad 0)), (2, .int (nI (k % 8))), (3, .int (nI (k / 8 % 8))), (4, .int (nI (k / 64 % 8))), (5, .int (nI (k / 512 % 8))), (6, .int (nI (k / 4096))), (7, .int (nI (aj_sm (aj_row0 G) a)))]) hx hb dX0_rank_97 hl (by decide) rfl (fun ls hl => ?_)
          refine lv_iload hx hb dX0_rank_99 (lv_at hl 7 rfl) ?_
          refine lv_iload hx hb dX0_rank_101 (lv_at hl 0 rfl) ?_
          refine aj_iadd hx hb dX0_rank_103 ?_
          refine lv_istore (lv' := [(7, .int (nI ((aj_sm (aj_row0 G) a) + (aj_sm (aj_st G 0 (k % 8) (1) 0) (k / 8 % 8))))), (8, .int (nI (aj_sm (aj_st G 0 (k % 8) (1) 0) (k / 8 % 8)))), (0, .ref (ad 0)), (2, .int (nI (k % 8))), (3, .int (nI (k / 8 % 8))), (4, .int (nI (k / 64 % 8))), (5, .int (nI (k / 512 % 8))), (6, .int (nI (k / 4096)))]) hx hb dX0_rank_104 hl (by decide) rfl (fun ls hl => ?_)
          refine lv_aload_n hx hb dX0_rank_106 rfl (lv_at hl 2 rfl) ?_
          refine lv_iconst (v := nI 0) hx hb dX0_rank_107 (by decide) ?_
          refine lv_iload_n hx hb dX0_rank_108 rfl (lv_at hl 3 rfl) ?_
          refine lv_iload_n hx hb dX0_rank_109 rfl (lv_at hl 4 rfl) ?_
          refine aj_callR (As := [.int (nI 0), .int (nI (k % 8)), .int (nI (k / 8 % 8))]) (rest := []) F (aj_there l hG (by decide) (by omega) (by omega)) aj_gX0_X0_there aj_hX0_there (aj_rmR (by decide) (by decide)) rfl rfl hK hP (va_recv (q0 := 0) hK hP (ci := 0) rfl rfl) rfl hl.1 rfl (Nat.le_of_ble_eq_true rfl) ⟨Nat.zero_le _, Nat.zero_le _⟩ dX0_rank_110 ?_
          refine aj_ifeqB (tgt := 207) hx hb dX0_rank_113 (by decide) (fun c_113 => ?_) (fun c_113 => ?_)
          ·
            refine lv_iload hx hb dX0_rank_207 (lv_at hl 0 rfl) ?_
            exact hret (nI ((aj_sm (aj_row0 G) a) + (aj_sm (aj_st G 0 (k % 8) (1) 0) (k / 8 % 8)))) _ _ _ _ dX0_rank_209 hS (⟨congrArg nI (by rw [ea]; simp [aj_rkV, *] <;> omega), N, true, dR, dT, dQ, uQ, uR, re, hG, fun _ => hC, hP⟩)
          ·
            refine lv_aload_n hx hb dX0_rank_116 rfl (lv_at hl 2 rfl) ?_
            refine lv_iconst (v := nI 1) hx hb dX0_rank_117 (by decide) ?_
            refine lv_iload_n hx hb dX0_rank_118 rfl (lv_at hl 4 rfl) ?_
            refine lv_iload hx hb dX0_rank_119 (lv_at hl 5 rfl) ?_
            refine lv_aload_n hx hb dX0_rank_121 rfl (lv_at hl 2 rfl) ?_
            refine va_get (D := D) (ci := 0) (v := .ref (ad 4)) (C := RX0) (T := TX0) (N := 9) hx hb hts in_X0 hown hK hP 0 rfl rfl 4 (by decide) (hts _ q36) (fun _ h9 => h9) rfl dX0_rank_122 ?_
            refine lv_iload_n hx hb dX0_rank_125 rfl (lv_at hl 4 rfl) ?_
            refine aj_iald (y := nI (aj_cT G (k / 8 % 8))) hx hb hK hP 4 0 rfl rfl (by omega) (by decide) (hC.T (by omega)) dX0_rank_126 ?_
            refine lv_iconst (v := nI 1) hx hb dX0_rank_127 (by decide) ?_
            refine aj_callR (As := [.int (nI 1), .int (nI (k / 8 % 8)), .int (nI (k / 64 % 8)), .int (nI (aj_cT G (k / 8 % 8))), .int (nI 1)]) (rest := []) F (aj_below l hG hC (i := 1) (a := k / 8 % 8) (bo := k / 64 % 8) (sc := aj_cT G (k / 8 % 8)) (k := 1) (by decide) (by omega) (by omega) (by decide)) aj_gX0_X0_below aj_hX0_below (aj_rmR (by decide) (by decide)) rfl rfl hK hP (va_recv (q0 := 0) hK hP (ci := 0) rfl rfl) rfl hl.1 rfl (Nat.le_of_ble_eq_true rfl) ⟨Nat.zero_le _, Nat.zero_le _⟩ dX0_rank_128 ?_
            refine lv_istore (lv' := [(8, .int (nI (aj_sm (aj_st G 1 (k / 8 % 8) (aj_cT G (k / 8 % 8)) 1) (k / 64 % 8)))), (7, .int (nI ((aj_sm (aj_row0 G) a) + (aj_sm (aj_st G 0 (k % 8) (1) 0) (k / 8 % 8))))), (0, .ref (ad 0)), (2, .int (nI (k % 8))), (3, .int (nI (k / 8 % 8))), (4, .int (nI (k / 64 % 8))), (5, .int (nI (k / 512 % 8))), (6, .int (nI (k / 4096)))]) hx hb dX0_rank_131 hl (by decide) rfl (fun ls hl => ?_)
            refine lv_iload hx hb dX0_rank_133 (lv_at hl 1 rfl) ?_
            refine lv_iload hx hb dX0_rank_135 (lv_at hl 0 rfl) ?_
            refine aj_iadd hx hb dX0_rank_137 ?_
            refine lv_istore (lv' := [(7, .int (nI (((aj_sm (aj_row0 G) a) + (aj_sm (aj_st G 0 (k % 8) (1) 0) (k / 8 % 8))) + (aj_sm (aj_st G 1 (k / 8 % 8) (aj_cT G (k / 8 % 8)) 1) (k / 64 % 8))))), (8, .int (nI (aj_sm (aj_st G 1 (k / 8 % 8) (aj_cT G (k / 8 % 8)) 1) (k / 64 % 8)))), (0, .ref (ad 0)), (2, .int (nI (k % 8))), (3, .int (nI (k / 8 % 8))), (4, .int (nI (k / 64 % 8))), (5, .int (nI (k / 512 % 8))), (6, .int (nI (k / 4096)))]) hx hb dX0_rank_138 hl (by decide) rfl (fun ls hl => ?_)
            refine lv_aload_n hx hb dX0_rank_140 rfl (lv_at hl 2 rfl) ?_
            refine lv_iconst (v := nI 1) hx hb dX0_rank_141 (by decide) ?_
            refine lv_iload_n hx hb dX0_rank_142 rfl (lv_at hl 4 rfl) ?_
            refine lv_iload hx hb dX0_rank_143 (lv_at hl 5 rfl) ?_
            refine aj_callR (As := [.int (nI 1), .int (nI (k / 8 % 8)), .int (nI (k / 64 % 8))]) (rest := []) F (aj_there l hG (by decide) (by omega) (by omega)) aj_gX0_X0_there aj_hX0_there (aj_rmR (by decide) (by decide)) rfl rfl hK hP (va_recv (q0 := 0) hK hP (ci := 0) rfl rfl) rfl hl.1 rfl (Nat.le_of_ble_eq_true rfl) ⟨Nat.zero_le _, Nat.zero_le _⟩ dX0_rank_145 ?_
            refine aj_ifeqB (tgt := 207) hx hb dX0_rank_148 (by decide) (fun c_148 => ?_) (fun c_148 => ?_)
            ·
              refine lv_iload hx hb dX0_rank_207 (lv_at hl 0 rfl) ?_
              exact hret (nI (((aj_sm (aj_row0 G) a) + (aj_sm (aj_st G 0 (k % 8) (1) 0) (k / 8 % 8))) + (aj_sm (aj_st G 1 (k / 8 % 8) (aj_cT G (k / 8 % 8)) 1) (k / 64 % 8)))) _ _ _ _ dX0_rank_209 hS (⟨congrArg nI (by rw [ea]; simp [aj_rkV, *] <;> omega), N, true, dR, dT, dQ, uQ, uR, re, hG, fun _ => hC, hP⟩)
            ·
              refine lv_aload_n hx hb dX0_rank_151 rfl (lv_at hl 2 rfl) ?_
              refine lv_iconst (v := nI 2) hx hb dX0_rank_152 (by decide) ?_
              refine lv_iload hx hb dX0_rank_153 (lv_at hl 5 rfl) ?_
              refine lv_iload hx hb dX0_rank_155 (lv_at hl 6 rfl) ?_
              refine lv_aload_n hx hb dX0_rank_157 rfl (lv_at hl 2 rfl) ?_
              refine va_get (D := D) (ci := 0) (v := .ref (ad 4)) (C := RX0) (T := TX0) (N := 9) hx hb hts in_X0 hown hK hP 0 rfl rfl 4 (by decide) (hts _ q36) (fun _ h9 => h9) rfl dX0_rank_158 ?_
              refine lv_iload_n hx hb dX0_rank_161 rfl (lv_at hl 4 rfl) ?_
              refine aj_iald (y := nI (aj_cT G (k / 8 % 8))) hx hb hK hP 4 0 rfl rfl (by omega) (by decide) (hC.T (by omega)) dX0_rank_162 ?_
              refine lv_iconst (v := nI 2) hx hb dX0_rank_163 (by decide) ?_
              refine aj_callR (As := [.int (nI 2), .int (nI (k / 64 % 8)), .int (nI (k / 512 % 8)), .int (nI (aj_cT G (k / 8 % 8))), .int (nI 2)]) (rest := []) F (aj_below l hG hC (i := 2) (a := k / 64 % 8) (bo := k / 512 % 8) (sc := aj_cT G (k / 8 % 8)) (k := 2) (by decide) (by omega) (by omega) (by decide)) aj_gX0_X0_below aj_hX0_below (aj_rmR (by decide) (by decide)) rfl rfl hK hP (va_recv (q0 := 0) hK hP (ci := 0) rfl rfl) rfl hl.1 rfl (Nat.le_of_ble_eq_true rfl) ⟨Nat.zero_le _, Nat.zero_le _⟩ dX0_rank_164 ?_
              refine lv_istore (lv' := [(8, .int (nI (aj_sm (aj_st G 2 (k / 64 % 8) (aj_cT G (k / 8 % 8)) 2) (k / 512 % 8)))), (7, .int (nI (((aj_sm (aj_row0 G) a) + (aj_sm (aj_st G 0 (k % 8) (1) 0) (k / 8 % 8))) + (aj_sm (aj_st G 1 (k / 8 % 8) (aj_cT G (k / 8 % 8)) 1) (k / 64 % 8))))), (0, .ref (ad 0)), (2, .int (nI (k % 8))), (3, .int (nI (k / 8 % 8))), (4, .int (nI (k / 64 % 8))), (5, .int (nI (k / 512 % 8))), (6, .int (nI (k / 4096)))]) hx hb dX0_rank_167 hl (by decide) rfl (fun ls hl => ?_)
              refine lv_iload hx hb dX0_rank_169 (lv_at hl 1 rfl) ?_
              refine lv_iload hx hb dX0_rank_171 (lv_at hl 0 rfl) ?_
              refine aj_iadd hx hb dX0_rank_173 ?_
              refine lv_istore (lv' := [(7, .int (nI ((((aj_sm (aj_row0 G) a) + (aj_sm (aj_st G 0 (k % 8) (1) 0) (k / 8 % 8))) + (aj_sm (aj_st G 1 (k / 8 % 8) (aj_cT G (k / 8 % 8)) 1) (k / 64 % 8))) + (aj_sm (aj_st G 2 (k / 64 % 8) (aj_cT G (k / 8 % 8)) 2) (k / 512 % 8))))), (8, .int (nI (aj_sm (aj_st G 2 (k / 64 % 8) (aj_cT G (k / 8 % 8)) 2) (k / 512 % 8)))), (0, .ref (ad 0)), (2, .int (nI (k % 8))), (3, .int (nI (k / 8 % 8))), (4, .int (nI (k / 64 % 8))), (5, .int (nI (k / 512 % 8))), (6, .int (nI (k / 4096)))]) hx hb dX0_rank_174 hl (by decide) rfl (fun ls hl => ?_)
              refine lv_aload_n hx hb dX0_rank_176 rfl (lv_at hl 2 rfl) ?_
              refine lv_iconst (v := nI 2) hx hb dX0_rank_177 (by decide) ?_
              refine lv_iload hx hb dX0_rank_178 (lv_at hl 5 rfl) ?_
              refine lv_iload hx hb dX0_rank_180 (lv_at hl 6 rfl) ?_
              refine aj_callR (As := [.int (nI 2), .int (nI (k / 64 % 8)), .int (nI (k / 512 % 8))]) (rest := []) F (aj_there l hG (by decide) (by omega) (by omega)) aj_gX0_X0_there aj_hX0_there (aj_rmR (by decide) (by decide)) rfl rfl hK hP (va_recv (q0 := 0) hK hP (ci := 0) rfl rfl) rfl hl.1 rfl (Nat.le_of_ble_eq_true rfl) ⟨Nat.zero_le _, Nat.zero_le _⟩ dX0_rank_182 ?_
              refine aj_ifeqB (tgt := 207) hx hb dX0_rank_185 (by decide) (fun c_185 => ?_) (fun c_185 => ?_)
              ·
                refine lv_iload hx hb dX0_rank_207 (lv_at hl 0 rfl) ?_
                exact hret (nI ((((aj_sm (aj_row0 G) a) + (aj_sm (aj_st G 0 (k % 8) (1) 0) (k / 8 % 8))) + (aj_sm (aj_st G 1 (k / 8 % 8) (aj_cT G (k / 8 % 8)) 1) (k / 64 % 8))) + (aj_sm (aj_st G 2 (k / 64 % 8) (aj_cT G (k / 8 % 8)) 2) (k / 512 % 8)))) _ _ _ _ dX0_rank_209 hS (⟨congrArg nI (by rw [ea]; simp [aj_rkV, *] <;> omega), N, true, dR, dT, dQ, uQ, uR, re, hG, fun _ => hC, hP⟩)
              ·
                refine lv_aload_n hx hb dX0_rank_188 rfl (lv_at hl 2 rfl) ?_
                refine lv_iconst (v := nI 3) hx hb dX0_rank_189 (by decide) ?_
                refine lv_iload_n hx hb dX0_rank_190 rfl (lv_at hl 4 rfl) ?_
                refine lv_iload hx hb dX0_rank_191 (lv_at hl 7 rfl) ?_
                refine lv_iconst (v := nI 1) hx hb dX0_rank_193 (by decide) ?_
                refine lv_iconst (v := nI 2) hx hb dX0_rank_194 (by decide) ?_
                refine aj_callR (As := [.int (nI 3), .int (nI (k / 8 % 8)), .int (nI (k / 4096)), .int (nI 1), .int (nI 2)]) (rest := []) F (aj_below l hG hC (i := 3) (a := k / 8 % 8) (bo := k / 4096) (sc := 1) (k := 2) (by decide) (by omega) (by omega) (by decide)) aj_gX0_X0_below aj_hX0_below (aj_rmR (by decide) (by decide)) rfl rfl hK hP (va_recv (q0 := 0) hK hP (ci := 0) rfl rfl) rfl hl.1 rfl (Nat.le_of_ble_eq_true rfl) ⟨Nat.zero_le _, Nat.zero_le _⟩ dX0_rank_195 ?_
                refine lv_istore (lv' := [(8, .int (nI (aj_sm (aj_st G 3 (k / 8 % 8) (1) 2) (k / 4096)))), (7, .int (nI ((((aj_sm (aj_row0 G) a) + (aj_sm (aj_st G 0 (k % 8) (1) 0) (k / 8 % 8))) + (aj_sm (aj_st G 1 (k / 8 % 8) (aj_cT G (k / 8 % 8)) 1) (k / 64 % 8))) + (aj_sm (aj_st G 2 (k / 64 % 8) (aj_cT G (k / 8 % 8)) 2) (k / 512 % 8))))), (0, .ref (ad 0)), (2, .int (nI (k % 8))), (3, .int (nI (k / 8 % 8))), (4, .int (nI (k / 64 % 8))), (5, .int (nI (k / 512 % 8))), (6, .int (nI (k / 4096)))]) hx hb dX0_rank_198 hl (by decide) rfl (fun ls hl => ?_)
                refine lv_iload hx hb dX0_rank_200 (lv_at hl 1 rfl) ?_
                refine lv_iload hx hb dX0_rank_202 (lv_at hl 0 rfl) ?_
                refine aj_iadd hx hb dX0_rank_204 ?_
                refine lv_istore (lv' := [(7, .int (nI (((((aj_sm (aj_row0 G) a) + (aj_sm (aj_st G 0 (k % 8) (1) 0) (k / 8 % 8))) + (aj_sm (aj_st G 1 (k / 8 % 8) (aj_cT G (k / 8 % 8)) 1) (k / 64 % 8))) + (aj_sm (aj_st G 2 (k / 64 % 8) (aj_cT G (k / 8 % 8)) 2) (k / 512 % 8))) + (aj_sm (aj_st G 3 (k / 8 % 8) (1) 2) (k / 4096))))), (8, .int (nI (aj_sm (aj_st G 3 (k / 8 % 8) (1) 2) (k / 4096)))), (0, .ref (ad 0)), (2, .int (nI (k % 8))), (3, .int (nI (k / 8 % 8))), (4, .int (nI (k / 64 % 8))), (5, .int (nI (k / 512 % 8))), (6, .int (nI (k / 4096)))]) hx hb dX0_rank_205 hl (by decide) rfl (fun ls hl => ?_)
                refine lv_iload hx hb dX0_rank_207 (lv_at hl 0 rfl) ?_
                exact hret (nI (((((aj_sm (aj_row0 G) a) + (aj_sm (aj_st G 0 (k % 8) (1) 0) (k / 8 % 8))) + (aj_sm (aj_st G 1 (k / 8 % 8) (aj_cT G (k / 8 % 8)) 1) (k / 64 % 8))) + (aj_sm (aj_st G 2 (k / 64 % 8) (aj_cT G (k / 8 % 8)) 2) (k / 512 % 8))) + (aj_sm (aj_st G 3 (k / 8 % 8) (1) 2) (k / 4096)))) _ _ _ _ dX0_rank_209 hS (⟨congrArg nI (by rw [ea]; simp [aj_rkV, *] <;> omega), N, true, dR, dT, dQ, uQ, uR, re, hG, fun _ => hC, hP⟩)
        ·
          refine lv_aload_n hx hb dX0_rank_62 rfl (lv_at hl 0 rfl) ?_
          refine lv_iconst (v := nI 0) hx hb dX0_rank_63 (by decide) ?_
          refine lv_iload hx hb dX0_rank_64 (lv_at hl 7 rfl) ?_
          refine lv_bipush (v := nI 8) hx hb dX0_rank_66 (by decide) ?_
          refine lv_iconst (v := nI 1) hx hb dX0_rank_68 (by decide) ?_
          refine lv_iconst (v := nI 0) hx hb dX0_rank_69 (by decide) ?_
          refine aj_callR (As := [.int (nI 0), .int (nI a), .int (nI 8), .int (nI 1), .int (nI 0)]) (rest := []) F (aj_below l hG hC (i := 0) (a := a) (bo := 8) (sc := 1) (k := 0) (by decide) (by omega) (by omega) (by decide)) aj_gX0_X0_below aj_hX0_below (aj_rmR (by decide) (by decide)) rfl rfl hK hP (va_recv (q0 := 0) hK hP (ci := 0) rfl rfl) rfl hl.1 rfl (Nat.le_of_ble_eq_true rfl) ⟨Nat.zero_le _, Nat.zero_le _⟩ dX0_rank_70 ?_
          refine lv_istore (lv' := [(9, .int (nI (aj_sm (aj_st G 0 (a) (1) 0) (8)))), (0, .ref (ad 0)), (2, .int (nI (k % 8))), (3, .int (nI (k / 8 % 8))), (4, .int (nI (k / 64 % 8))), (5, .int (nI (k / 512 % 8))), (6, .int (nI (k / 4096))), (7, .int (nI (aj_sm (aj_row0 G) a))), (8, .int (nI a))]) hx hb dX0_rank_73 hl (by decide) rfl (fun ls hl => ?_)
          refine lv_iload hx hb dX0_rank_75 (lv_at hl 7 rfl) ?_
          refine lv_iload hx hb dX0_rank_77 (lv_at hl 0 rfl) ?_
          refine aj_iadd hx hb dX0_rank_79 ?_
          refine lv_istore (lv' := [(7, .int (nI ((aj_sm (aj_row0 G) a) + (aj_sm (aj_st G 0 (a) (1) 0) (8))))), (9, .int (nI (aj_sm (aj_st G 0 (a) (1) 0) (8)))), (0, .ref (ad 0)), (2, .int (nI (k % 8))), (3, .int (nI (k / 8 % 8))), (4, .int (nI (k / 64 % 8))), (5, .int (nI (k / 512 % 8))), (6, .int (nI (k / 4096))), (8, .int (nI a))]) hx hb dX0_rank_80 hl (by decide) rfl (fun ls hl => ?_)
          refine lv_iinc (v := nI (a + 1)) (lv' := [(8, .int (nI (a + 1))), (7, .int (nI ((aj_sm (aj_row0 G) a) + (aj_sm (aj_st G 0 (a) (1) 0) (8))))), (9, .int (nI (aj_sm (aj_st G 0 (a) (1) 0) (8)))), (0, .ref (ad 0)), (2, .int (nI (k % 8))), (3, .int (nI (k / 8 % 8))), (4, .int (nI (k / 64 % 8))), (5, .int (nI (k / 512 % 8))), (6, .int (nI (k / 4096)))]) hx hb dX0_rank_82 hl (k := 8) rfl (nI_add a 1) (by decide) rfl (fun ls hl => ?_)
          refine lv_goto (tgt := 56) hx hb dX0_rank_85 (by decide) ?_
          exact ih_56 (a + 1) (nI ((aj_sm (aj_row0 G) a) + (aj_sm (aj_st G 0 (a) (1) 0) (8)))) rfl (by omega) (by omega) _ _ hP hS _ (lv_sub hl [3, 4, 5, 6, 7, 8, 1, 0] rfl)
    exact L_56 (k % 8 + 1) 0 (nI 0) rfl (by omega) (by omega) _ _ hP hS _ (lv_sub hl [7, 6, 5, 4, 3, 2, 1, 0] rfl)
  ·
    rw [aj_badC_ok h1] at c_5; cases c_5

set_option maxHeartbeats 4000000 in
set_option maxRecDepth 100000 in
theorem aj_C_rank_bad (l : Launch) {D : va_G} {ad : Nat → Nat} {d : ClassId} {G : aj_T} {S : Nat → Int32} (hap : aj_Ap 8 ad) {x : Int32} (h1 : aj_badC x = true) : aj_MW l yX0_rank cX0_rank 10 .int 2 D [(d, .int)] [.ref (ad 0), .int x] (aj_CC D ad d G S) (aj_PV (-1) (aj_CC D ad d G S)) (aj_In 8 ad) := by
  refine aj_rw (Post := aj_PV (-1) (aj_CC D ad d G S)) (pre := (aj_CC D ad d G S)) (aj_In 8 ad) RX0 (by decide) rfl (Nat.le_of_ble_eq_true rfl) (fun v H h => aj_nI rfl v) ?_
  intro p e s m args below meth c ls Q F hK hP hl hret
  obtain ⟨hx, hb, hml, hown, hts⟩ := id F
  have hS : va_S (aj_In 8 ad) s.heap s.heap [] := va_S.rf
  have hl : lv_has ls 10 [(0, .ref (ad 0)), (1, .int x)] := hl
  obtain ⟨N, pb, dR, dT, dQ, uQ, uR, re, hG, hC, hP⟩ := hP
  refine lv_aload_n hx hb dX0_rank_0 rfl (lv_at hl 0 rfl) ?_
  refine lv_iload_n hx hb dX0_rank_1 rfl (lv_at hl 1 rfl) ?_
  refine aj_callR (As := [.int x]) (rest := []) F (aj_badCode l) aj_gX0_X0_badCode aj_hX0_badCode (aj_rmR (by decide) (by decide)) rfl rfl hK hP (va_recv (q0 := 0) hK hP (ci := 0) rfl rfl) rfl hl.1 rfl (Nat.le_of_ble_eq_true rfl) ⟨Nat.zero_le _, Nat.zero_le _⟩ dX0_rank_2 ?_
  refine aj_ifeqB (tgt := 10) hx hb dX0_rank_5 (by decide) (fun c_5 => ?_) (fun c_5 => ?_)
  ·
    rw [h1] at c_5; cases c_5
  ·
    refine lv_iconst (v := (-1)) hx hb dX0_rank_8 (by decide) ?_
    exact hret ((-1)) _ _ _ _ dX0_rank_9 hS (⟨rfl, N, pb, dR, dT, dQ, uQ, uR, re, hG, hC, hP⟩)

end
end
section
section
def aj_MRel (M : Nat → Int32) (G : aj_T) : Prop := ∀ i a b, i < 4 → a < 8 → b < 8 → M (64 * i + 8 * a + b) = nI (G i a b).toNat
/-- the reference, seen from outside -/
def aj_MM (D : va_G) (bd : Nat → Nat) (d2 d : ClassId) (G : aj_T) (S : Nat → Int32) (H : Heap) : Prop := ∃ M E : Nat → Int32, aj_MRel M G ∧ aj_mP D bd d2 d M S E H
/-- the value in column c of combination n -/
def aj_vI (n c : Nat) : Nat := n / 2 ^ (12 - 3 * c) % 8
def aj_rO (n i : Nat) : Nat := match i with
  | 0 => 8 * aj_vI n 0 + aj_vI n 1
  | 1 => 64 + 8 * aj_vI n 1 + aj_vI n 2
  | 2 => 128 + 8 * aj_vI n 2 + aj_vI n 3
  | _ => 192 + 8 * aj_vI n 1 + aj_vI n 4
def aj_isA (G : aj_T) (n : Nat) : Bool := G 1 (n / 512 % 8) (n / 64 % 8) && (G 0 (n / 4096) (n / 512 % 8) && (G 2 (n / 64 % 8) (n / 8 % 8) && G 3 (n / 512 % 8) (n % 8)))
def aj_a1 (G : aj_T) (n : Nat) : Nat := (aj_isA G n).toNat
def aj_code (n : Nat) : Nat := n / 4096 % 8 + 8 * (n / 512 % 8) + 64 * (n / 64 % 8) + 512 * (n / 8 % 8) + 4096 * (n % 8)
def aj_num (k : Nat) : Nat := 4096 * (k % 8) + 512 * (k / 8 % 8) + 64 * (k / 64 % 8) + 8 * (k / 512 % 8) + k / 4096 % 8
def aj_cw1 (G : aj_T) (pl n : Nat) : Nat := (aj_isA G n && decide (aj_rO n (pl / 64) = pl)).toNat
def aj_cw (G : aj_T) (pl : Nat) : Nat := aj_sm (aj_cw1 G pl) 32768
def aj_um1 (G : aj_T) (i j : Nat) : Nat := (G i (j / 8) (j % 8) && decide (0 < aj_cw G (64 * i + j))).toNat
def aj_umV (G : aj_T) (i : Nat) : Nat := aj_sm (aj_um1 G i) 64
def aj_cv1 (G : aj_T) (c v n : Nat) : Nat := (decide (aj_vI n c = v) && aj_isA G n).toNat
def aj_cv (G : aj_T) (c v : Nat) : Nat := aj_sm (aj_cv1 G c v) 32768
def aj_vm1 (G : aj_T) (c v : Nat) : Nat := (decide (0 < aj_cv G c v)).toNat
def aj_vmV (G : aj_T) (c : Nat) : Nat := aj_sm (aj_vm1 G c) 8
def aj_gmV (G : aj_T) (i a b : Nat) : Nat := if G i a b = true then 0 else aj_cw (aj_setG G i a b true) (64 * i + 8 * a + b)
def aj_sm1 (G : aj_T) (n : Nat) : Nat := (aj_isA G n).toNat * (aj_vI n 3 + aj_vI n 4)
def aj_smV (G : aj_T) : Nat := aj_sm (aj_sm1 G) 32768
def aj_pr (n : Nat) : Nat := 8 * aj_vI n 0 + aj_vI n 3
def aj_sb (G : aj_T) (n k : Nat) : Bool := aj_or (fun z => decide (aj_pr z = k) && aj_isA G z) n
def aj_emV (G : aj_T) : Nat := aj_sm (fun k => (aj_sb G 32768 k).toNat) 64
def aj_isV (x : Int32) : Bool := !decide (x < 0) && !decide (nI 7 < x)
def aj_isRw (x y z : Int32) : Bool := !decide (x < 0) && (!decide (nI 3 < x) && (aj_isV y && aj_isV z))
theorem aj_vI_lt (n c : Nat) : aj_vI n c < 8 := Nat.mod_lt _ (by decide)
theorem aj_rO_lt (n : Nat) (i : Nat) : aj_rO n i < 256 := by
  have h0 := aj_vI_lt n 0
  have h1 := aj_vI_lt n 1
  have h2 := aj_vI_lt n 2
  have h3 := aj_vI_lt n 3
  have h4 := aj_vI_lt n 4
  unfold aj_rO
  split <;> omega
theorem aj_cw_le (G : aj_T) (pl : Nat) : aj_cw G pl ≤ 32768 := aj_sm_le (k := 1) 32768 (fun j _ => aj_b1 _)
theorem aj_cv_le (G : aj_T) (c v : Nat) : aj_cv G c v ≤ 32768 := aj_sm_le (k := 1) 32768 (fun j _ => aj_b1 _)
theorem aj_shrK {n k : Nat} (h : n < 2 ^ 31) (hk : k < 32) : nI n >>> (nI k &&& 31) = nI (n / 2 ^ k) := pk_shrN h (nI k &&& 31) k (s_l k hk)
theorem aj_divlt {n k : Nat} (h : n < 2 ^ 31) : n / k < 2 ^ 31 := Nat.lt_of_le_of_lt (Nat.div_le_self n k) h
theorem aj_num_lt (k : Nat) : aj_num k < 32768 := by
  unfold aj_num
  omega
theorem aj_isV_ok {a : Nat} (h : a < 8) : aj_isV (nI a) = true := by
  have e1 : ¬ nI a < 0 := nI_pos (by omega)
  have e2 : ¬ nI 7 < nI a := nI_nlt (by omega) (by decide)
  simp [aj_isV, e1, e2]
theorem aj_isV_no {x : Int32} (h : aj_out 8 x = true) : aj_isV x = false := by
  by_cases h0 : x < 0
  · simp [aj_isV, h0]
  · have h1 : nI 7 < x := by
      have h2 : nI 8 ≤ x := by simpa [aj_out, h0] using h
      exact Int32.lt_of_lt_of_le (by decide) h2
    simp [aj_isV, h1]
theorem aj_isRw_ok {i a b : Nat} (h1 : i < 4) (h2 : a < 8) (h3 : b < 8) : aj_isRw (nI i) (nI a) (nI b) = true := by
  have e1 : ¬ nI i < 0 := nI_pos (by omega)
  have e2 : ¬ nI 3 < nI i := nI_nlt (by omega) (by decide)
  simp [aj_isRw, e1, e2, aj_isV_ok h2, aj_isV_ok h3]
theorem aj_out_iff (n : Nat) (x : Int32) : aj_out n x = true ↔ x < 0 ∨ nI n ≤ x := by simp [aj_out]
theorem aj_isRw_bad {x y z : Int32} (h : aj_bad x y z = true) : aj_isRw x y z = false := by
  have h' : (x < 0 ∨ nI 4 ≤ x) ∨ (y < 0 ∨ nI 8 ≤ y) ∨ (z < 0 ∨ nI 8 ≤ z) := by
    simp [aj_bad] at h
    rcases h with ((((h | h) | h) | h) | h) | h
    · exact Or.inl (Or.inl h)
    · exact Or.inl (Or.inr h)
    · exact Or.inr (Or.inl (Or.inl h))
    · exact Or.inr (Or.inl (Or.inr h))
    · exact Or.inr (Or.inr (Or.inl h))
    · exact Or.inr (Or.inr (Or.inr h))
  rcases h' with (h | h) | h | h
  · simp [aj_isRw, h]
  · have h1 : nI 3 < x := Int32.lt_of_lt_of_le (by decide) h
    simp [aj_isRw, h1]
  · simp [aj_isRw, aj_isV_no ((aj_out_iff 8 y).mpr h)]
  · simp [aj_isRw, aj_isV_no ((aj_out_iff 8 z).mpr h)]
theorem aj_MRel_set {M : Nat → Int32} {G : aj_T} (h : aj_MRel M G) {i a b : Nat} (h1 : i < 4) (h2 : a < 8) (h3 : b < 8) (v : Bool) {x : Int32} (hx : x = nI v.toNat) : aj_MRel (upd M (64 * i + 8 * a + b) x) (aj_setG G i a b v) := by
  intro j c e g1 g2 g3
  by_cases q : 64 * j + 8 * c + e = 64 * i + 8 * a + b
  · obtain rfl : j = i := by omega
    obtain rfl : c = a := by omega
    obtain rfl : e = b := by omega
    rw [pk_us, hx]
    simp [aj_setG]
  · rw [pk_un q, h j c e g1 g2 g3]
    have : ¬ (j = i ∧ c = a ∧ e = b) := fun z => q (by rw [z.1, z.2.1, z.2.2])
    simp only [aj_setG, if_neg this]
theorem aj_MRel_clr {M M' : Nat → Int32} {G : aj_T} (h : aj_MRel M G) {i : Nat} (h1 : i < 4) (hz : ∀ j, j < 64 → M' (64 * i + j) = nI 0) (hk : ∀ k, k < 64 * i ∨ 64 * i + 64 ≤ k → M' k = M k) : aj_MRel M' (aj_clrG G i) := by
  intro j c e g1 g2 g3
  by_cases q : j = i
  · subst q
    have h9 := hz (8 * c + e) (by omega)
    rw [← Nat.add_assoc] at h9
    rw [h9]
    simp [aj_clrG]
  · rw [hk _ (by omega), h j c e g1 g2 g3]
    simp only [aj_clrG, if_neg q]
theorem aj_M1 {M : Nat → Int32} {G : aj_T} (h : aj_MRel M G) (n : Nat) : M (64 + n / 64 % 64) = nI (G 1 (n / 512 % 8) (n / 64 % 8)).toNat := by
  rw [show 64 + n / 64 % 64 = 64 * 1 + 8 * (n / 512 % 8) + n / 64 % 8 by omega]
  exact h 1 _ _ (by decide) (by omega) (by omega)
theorem aj_M0 {M : Nat → Int32} {G : aj_T} (h : aj_MRel M G) {n : Nat} (hn : n < 32768) : M (n / 512) = nI (G 0 (n / 4096) (n / 512 % 8)).toNat := by
  rw [show n / 512 = 64 * 0 + 8 * (n / 4096) + n / 512 % 8 by omega]
  have h9 := h 0 (n / 4096) (n / 512 % 8) (by decide) (by omega) (by omega)
  rw [h9]
  congr 3
  omega
theorem aj_M2 {M : Nat → Int32} {G : aj_T} (h : aj_MRel M G) (n : Nat) : M (128 + n / 8 % 64) = nI (G 2 (n / 64 % 8) (n / 8 % 8)).toNat := by
  rw [show 128 + n / 8 % 64 = 64 * 2 + 8 * (n / 64 % 8) + n / 8 % 8 by omega]
  exact h 2 _ _ (by decide) (by omega) (by omega)
theorem aj_M3 {M : Nat → Int32} {G : aj_T} (h : aj_MRel M G) (n : Nat) : M (aj_rO n 3) = nI (G 3 (n / 512 % 8) (n % 8)).toNat := by
  rw [show aj_rO n 3 = 64 * 3 + 8 * (n / 512 % 8) + n % 8 by show 192 + 8 * (n / 512 % 8) + n / 1 % 8 = _; omega]
  exact h 3 _ _ (by decide) (by omega) (by omega)
theorem aj_Mj {M : Nat → Int32} {G : aj_T} (h : aj_MRel M G) {i j : Nat} (h1 : i < 4) (h2 : j < 64) : M (64 * i + j) = nI (G i (j / 8) (j % 8)).toNat := by
  rw [show 64 * i + j = 64 * i + 8 * (j / 8) + j % 8 by omega]
  exact h i _ _ h1 (by omega) (by omega)
theorem aj_sb_skip {G : aj_T} {n : Nat} (h : aj_sb G n (aj_pr n) = true ∨ aj_isA G n = false) (k : Nat) : aj_sb G (n + 1) k = aj_sb G n k := by
  show (aj_sb G n k || (decide (aj_pr n = k) && aj_isA G n)) = aj_sb G n k
  by_cases e : aj_pr n = k
  · subst e
    rcases h with h | h
    · rw [h]; simp
    · rw [h]; simp
  · simp [e]
theorem aj_sb_new {G : aj_T} {n : Nat} (h : aj_isA G n = true) (k : Nat) : aj_sb G (n + 1) k = (aj_sb G n k || decide (k = aj_pr n)) := by
  show (aj_sb G n k || (decide (aj_pr n = k) && aj_isA G n)) = _
  rw [h, Bool.and_true]
  congr 1
  exact decide_eq_decide.mpr ⟨Eq.symm, Eq.symm⟩
theorem aj_sm_new {f : Nat → Bool} {q : Nat} (hf : f q = false) : ∀ n, aj_sm (fun k => (f k || decide (k = q)).toNat) n = aj_sm (fun k => (f k).toNat) n + (decide (q < n)).toNat
  | 0 => by simp [aj_sm]
  | n + 1 => by
    rw [aj_sm_s, aj_sm_s, aj_sm_new hf n]
    by_cases e : n = q
    · subst e
      simp [hf]
    · have e2 : (q < n + 1) = (q < n) := propext ⟨fun _ => by omega, fun _ => by omega⟩
      simp [e, e2]
      omega
end
end
section
section
theorem aj_v0 (n : Nat) : aj_vI n 0 = n / 4096 % 8 := rfl
theorem aj_v1 (n : Nat) : aj_vI n 1 = n / 512 % 8 := rfl
theorem aj_v2 (n : Nat) : aj_vI n 2 = n / 64 % 8 := rfl
theorem aj_v3 (n : Nat) : aj_vI n 3 = n / 8 % 8 := rfl
theorem aj_v4 (n : Nat) : aj_vI n 4 = n % 8 := by
  show n / 1 % 8 = n % 8
  rw [Nat.div_one]
def aj_isC (x : Int32) : Bool := !decide (x < 0) && !decide (nI 32767 < x)
theorem aj_isC_ok {k : Nat} (h : k < 32768) : aj_isC (nI k) = true := by
  have e1 : ¬ nI k < 0 := nI_pos (by omega)
  have e2 : ¬ nI 32767 < nI k := nI_nlt (by omega) (by decide)
  simp [aj_isC, e1, e2]
theorem aj_isC_bad {x : Int32} (h : aj_badC x = true) : aj_isC x = false := by
  simp [aj_badC] at h
  rcases h with h | h
  · simp [aj_isC, h]
  · simp [aj_isC, h]
theorem aj_out_no3 {x : Int32} (h : aj_out 4 x = true) (h0 : ¬ x < 0) : ¬ x ≤ nI 3 := by
  intro h1
  simp [aj_out, h0] at h
  exact absurd (Int32.le_trans h h1) (by decide)
theorem aj_sm_mono (f : Nat → Nat) {a b : Nat} (h : a ≤ b) : aj_sm f a ≤ aj_sm f b := by
  induction h with
  | refl => exact Nat.le_refl _
  | step _ ih => exact Nat.le_trans ih (Nat.le_add_right _ _)
theorem aj_uniq {G : aj_T} {n n0 : Nat} (h0 : aj_isA G n0 = true) (h1 : aj_isA G n = true) (h : aj_sm (aj_a1 G) n = aj_sm (aj_a1 G) n0) : n = n0 := by
  rcases Nat.lt_trichotomy n n0 with q | q | q
  · have h2 := aj_sm_mono (aj_a1 G) (show n + 1 ≤ n0 from q)
    rw [aj_sm_s, aj_a1, h1] at h2
    simp at h2
    omega
  · exact q
  · have h2 := aj_sm_mono (aj_a1 G) (show n0 + 1 ≤ n from q)
    rw [aj_sm_s, aj_a1, h0] at h2
    simp at h2
    omega
theorem aj_wnoM {x y : Int32} (h1 : ¬ x < 0) (h2 : ¬ nI 4 < x) (h3 : aj_isV y = true) : ¬ (aj_out 5 x || aj_out 8 y) = true := by
  intro h
  rcases Bool.or_eq_true_iff.mp h with q | q
  · exact aj_out_no4 q h1 (Int32.not_lt.mp h2)
  · rw [aj_isV_no q] at h3
    cases h3
set_option maxHeartbeats 4000000 in
set_option maxRecDepth 100000 in
theorem aj_isValue (l : Launch) {D : va_G} {bd : Nat → Nat} {d2 d : ClassId} {M S E : Nat → Int32} {x : Int32} : aj_MR l yX1_isValue cX1_isValue 2 .boolean 0 D [(d, .int), (d2, .boolean)] [.ref (bd 0), .int x] (aj_mP D bd d2 d M S E) (nI (aj_isV x).toNat) := by
  refine aj_ro RX1 (by decide) rfl (Nat.le_of_ble_eq_true rfl) (fun v h => by rw [h]; exact aj_nZ _) ?_
  intro p e s m args below meth c ls Q F hK hP hl hret
  obtain ⟨hx, hb, hml, hown, hts⟩ := id F
  have hP : va_P D aj_cl (aj_mW bd d2 d M S E) s.heap := hP
  have hl : lv_has ls 2 [(0, .ref (bd 0)), (1, .int x)] := hl
  refine lv_iload_n hx hb dX1_isValue_0 rfl (lv_at hl 1 rfl) ?_
  refine lv_if_lt (tgt := 14) hx hb dX1_isValue_1 (by decide) (fun c_1 => ?_) (fun c_1 => ?_)
  ·
    refine lv_iconst (v := nI 0) hx hb dX1_isValue_14 (by decide) ?_
    exact hret (nI 0) _ _ dX1_isValue_15 ((by simp [aj_isV, *]))
  ·
    refine lv_iload_n hx hb dX1_isValue_4 rfl (lv_at hl 1 rfl) ?_
    refine lv_bipush (v := nI 7) hx hb dX1_isValue_5 (by decide) ?_
    refine lv_icmp_gt (tgt := 14) hx hb dX1_isValue_7 (by decide) (fun c_7 => ?_) (fun c_7 => ?_)
    ·
      refine lv_iconst (v := nI 0) hx hb dX1_isValue_14 (by decide) ?_
      exact hret (nI 0) _ _ dX1_isValue_15 ((by simp [aj_isV, *]))
    ·
      refine lv_iconst (v := nI 1) hx hb dX1_isValue_10 (by decide) ?_
      refine lv_goto (tgt := 15) hx hb dX1_isValue_11 (by decide) ?_
      exact hret (nI 1) _ _ dX1_isValue_15 ((by simp [aj_isV, *]))

set_option maxHeartbeats 4000000 in
set_option maxRecDepth 100000 in
theorem aj_isRow (l : Launch) {D : va_G} {bd : Nat → Nat} {d2 d : ClassId} {M S E : Nat → Int32} {x y z : Int32} : aj_MR l yX1_isRow cX1_isRow 4 .boolean 1 D [(d, .int), (d2, .boolean)] [.ref (bd 0), .int x, .int y, .int z] (aj_mP D bd d2 d M S E) (nI (aj_isRw x y z).toNat) := by
  refine aj_ro RX1 (by decide) rfl (Nat.le_of_ble_eq_true rfl) (fun v h => by rw [h]; exact aj_nZ _) ?_
  intro p e s m args below meth c ls Q F hK hP hl hret
  obtain ⟨hx, hb, hml, hown, hts⟩ := id F
  have hP : va_P D aj_cl (aj_mW bd d2 d M S E) s.heap := hP
  have hl : lv_has ls 4 [(0, .ref (bd 0)), (1, .int x), (2, .int y), (3, .int z)] := hl
  refine lv_iload_n hx hb dX1_isRow_0 rfl (lv_at hl 1 rfl) ?_
  refine lv_if_lt (tgt := 29) hx hb dX1_isRow_1 (by decide) (fun c_1 => ?_) (fun c_1 => ?_)
  ·
    refine lv_iconst (v := nI 0) hx hb dX1_isRow_29 (by decide) ?_
    exact hret (nI 0) _ _ dX1_isRow_30 ((by simp [aj_isRw, *]))
  ·
    refine lv_iload_n hx hb dX1_isRow_4 rfl (lv_at hl 1 rfl) ?_
    refine lv_iconst (v := nI 3) hx hb dX1_isRow_5 (by decide) ?_
    refine lv_icmp_gt (tgt := 29) hx hb dX1_isRow_6 (by decide) (fun c_6 => ?_) (fun c_6 => ?_)
    ·
      refine lv_iconst (v := nI 0) hx hb dX1_isRow_29 (by decide) ?_
      exact hret (nI 0) _ _ dX1_isRow_30 ((by simp [aj_isRw, *]))
    ·
      refine lv_aload_n hx hb dX1_isRow_9 rfl (lv_at hl 0 rfl) ?_
      refine lv_iload_n hx hb dX1_isRow_10 rfl (lv_at hl 2 rfl) ?_
      refine aj_callR (As := [.int y]) (rest := []) F (aj_isValue l) aj_gX1_X1_isValue aj_hX1_isValue (aj_rmR (by decide) (by decide)) rfl rfl hK hP (va_recv (q0 := 0) hK hP (ci := 1) rfl rfl) rfl hl.1 rfl (Nat.le_of_ble_eq_true rfl) ⟨Nat.zero_le _, Nat.zero_le _⟩ dX1_isRow_11 ?_
      refine aj_ifeqB (tgt := 29) hx hb dX1_isRow_14 (by decide) (fun c_14 => ?_) (fun c_14 => ?_)
      ·
        refine lv_iconst (v := nI 0) hx hb dX1_isRow_29 (by decide) ?_
        exact hret (nI 0) _ _ dX1_isRow_30 ((by simp [aj_isRw, *]))
      ·
        refine lv_aload_n hx hb dX1_isRow_17 rfl (lv_at hl 0 rfl) ?_
        refine lv_iload_n hx hb dX1_isRow_18 rfl (lv_at hl 3 rfl) ?_
        refine aj_callR (As := [.int z]) (rest := []) F (aj_isValue l) aj_gX1_X1_isValue aj_hX1_isValue (aj_rmR (by decide) (by decide)) rfl rfl hK hP (va_recv (q0 := 0) hK hP (ci := 1) rfl rfl) rfl hl.1 rfl (Nat.le_of_ble_eq_true rfl) ⟨Nat.zero_le _, Nat.zero_le _⟩ dX1_isRow_19 ?_
        refine aj_ifeqB (tgt := 29) hx hb dX1_isRow_22 (by decide) (fun c_22 => ?_) (fun c_22 => ?_)
        ·
          refine lv_iconst (v := nI 0) hx hb dX1_isRow_29 (by decide) ?_
          exact hret (nI 0) _ _ dX1_isRow_30 ((by simp [aj_isRw, *]))
        ·
          refine lv_iconst (v := nI 1) hx hb dX1_isRow_25 (by decide) ?_
          refine lv_goto (tgt := 30) hx hb dX1_isRow_26 (by decide) ?_
          exact hret (nI 1) _ _ dX1_isRow_30 ((by simp [aj_isRw, *]))

set_option maxHeartbeats 4000000 in
set_option maxRecDepth 100000 in
theorem aj_isCode (l : Launch) {D : va_G} {bd : Nat → Nat} {d2 d : ClassId} {M S E : Nat → Int32} {x : Int32} : aj_MR l yX1_isCode cX1_isCode 2 .boolean 0 D [(d, .int), (d2, .boolean)] [.ref (bd 0), .int x] (aj_mP D bd d2 d M S E) (nI (aj_isC x).toNat) := by
  refine aj_ro RX1 (by decide) rfl (Nat.le_of_ble_eq_true rfl) (fun v h => by rw [h]; exact aj_nZ _) ?_
  intro p e s m args below meth c ls Q F hK hP hl hret
  obtain ⟨hx, hb, hml, hown, hts⟩ := id F
  have hP : va_P D aj_cl (aj_mW bd d2 d M S E) s.heap := hP
  have hl : lv_has ls 2 [(0, .ref (bd 0)), (1, .int x)] := hl
  refine lv_iload_n hx hb dX1_isCode_0 rfl (lv_at hl 1 rfl) ?_
  refine lv_if_lt (tgt := 15) hx hb dX1_isCode_1 (by decide) (fun c_1 => ?_) (fun c_1 => ?_)
  ·
    refine lv_iconst (v := nI 0) hx hb dX1_isCode_15 (by decide) ?_
    exact hret (nI 0) _ _ dX1_isCode_16 ((by simp [aj_isC, *]))
  ·
    refine lv_iload_n hx hb dX1_isCode_4 rfl (lv_at hl 1 rfl) ?_
    refine lv_sipush (v := nI 32767) hx hb dX1_isCode_5 (by decide) ?_
    refine lv_icmp_gt (tgt := 15) hx hb dX1_isCode_8 (by decide) (fun c_8 => ?_) (fun c_8 => ?_)
    ·
      refine lv_iconst (v := nI 0) hx hb dX1_isCode_15 (by decide) ?_
      exact hret (nI 0) _ _ dX1_isCode_16 ((by simp [aj_isC, *]))
    ·
      refine lv_iconst (v := nI 1) hx hb dX1_isCode_11 (by decide) ?_
      refine lv_goto (tgt := 16) hx hb dX1_isCode_12 (by decide) ?_
      exact hret (nI 1) _ _ dX1_isCode_16 ((by simp [aj_isC, *]))

set_option maxHeartbeats 4000000 in
set_option maxRecDepth 100000 in
theorem aj_valueIn (l : Launch) {D : va_G} {bd : Nat → Nat} {d2 d : ClassId} {M S E : Nat → Int32} {n k : Nat} (h1 : n < 32768) (h2 : k < 5) : aj_MR l yX1_valueIn cX1_valueIn 3 .int 0 D [(d, .int), (d2, .boolean)] [.ref (bd 0), .int (nI n), .int (nI k)] (aj_mP D bd d2 d M S E) (nI (aj_vI n k)) := by
  refine aj_ro RX1 (by decide) rfl (Nat.le_of_ble_eq_true rfl) (fun v h => aj_nI rfl v) ?_
  intro p e s m args below meth c ls Q F hK hP hl hret
  obtain ⟨hx, hb, hml, hown, hts⟩ := id F
  have hP : va_P D aj_cl (aj_mW bd d2 d M S E) s.heap := hP
  have hl : lv_has ls 3 [(0, .ref (bd 0)), (1, .int (nI n)), (2, .int (nI k))] := hl
  refine lv_iload_n hx hb dX1_valueIn_0 rfl (lv_at hl 1 rfl) ?_
  refine lv_bipush (v := nI 12) hx hb dX1_valueIn_1 (by decide) ?_
  refine lv_iconst (v := nI 3) hx hb dX1_valueIn_3 (by decide) ?_
  refine lv_iload_n hx hb dX1_valueIn_4 rfl (lv_at hl 2 rfl) ?_
  refine aj_imul hx hb dX1_valueIn_5 ?_
  refine aj_isub hx hb (by omega) dX1_valueIn_6 ?_
  refine lv_ishr hx hb dX1_valueIn_7 ?_
  refine aj_top (y := nI (n / 2 ^ (12 - 3 * k))) (aj_shrK (by omega) (by omega)) ?_
  refine lv_bipush (v := nI 7) hx hb dX1_valueIn_8 (by decide) ?_
  refine lv_iand hx hb dX1_valueIn_10 ?_
  refine aj_top (y := nI (aj_vI n k)) (aj_and7 (aj_divlt (by omega))) ?_
  exact hret (nI (aj_vI n k)) _ _ dX1_valueIn_11 (rfl)

set_option maxHeartbeats 4000000 in
set_option maxRecDepth 100000 in
theorem aj_codeM (l : Launch) {D : va_G} {bd : Nat → Nat} {d2 d : ClassId} {M S E : Nat → Int32} {n : Nat} (h1 : n < 32768) : aj_MR l yX1_code cX1_code 4 .int 1 D [(d, .int), (d2, .boolean)] [.ref (bd 0), .int (nI n)] (aj_mP D bd d2 d M S E) (nI (aj_code n)) := by
  refine aj_ro RX1 (by decide) rfl (Nat.le_of_ble_eq_true rfl) (fun v h => aj_nI rfl v) ?_
  intro p e s m args below meth c ls Q F hK hP hl hret
  obtain ⟨hx, hb, hml, hown, hts⟩ := id F
  have hP : va_P D aj_cl (aj_mW bd d2 d M S E) s.heap := hP
  have hl : lv_has ls 4 [(0, .ref (bd 0)), (1, .int (nI n))] := hl
  refine lv_iconst (v := nI 0) hx hb dX1_code_0 (by decide) ?_
  refine lv_istore_n (lv' := [(2, .int (nI 0)), (0, .ref (bd 0)), (1, .int (nI n))]) hx hb dX1_code_1 rfl hl (by decide) rfl (fun ls hl => ?_)
  refine lv_iconst (v := nI 4) hx hb dX1_code_2 (by decide) ?_
  refine lv_istore_n (lv' := [(3, .int (nI 4)), (2, .int (nI 0)), (0, .ref (bd 0)), (1, .int (nI n))]) hx hb dX1_code_3 rfl hl (by decide) rfl (fun ls hl => ?_)
  refine lv_iload_n hx hb dX1_code_4 rfl (lv_at hl 0 rfl) ?_
  refine aj_iflt (tgt := 26) hx hb (by omega) dX1_code_5 (by decide) ?_
  refine lv_bipush (v := nI 8) hx hb dX1_code_8 (by decide) ?_
  refine lv_iload_n hx hb dX1_code_10 rfl (lv_at hl 1 rfl) ?_
  refine aj_imul hx hb dX1_code_11 ?_
  refine lv_aload_n hx hb dX1_code_12 rfl (lv_at hl 2 rfl) ?_
  refine lv_iload_n hx hb dX1_code_13 rfl (lv_at hl 3 rfl) ?_
  refine lv_iload_n hx hb dX1_code_14 rfl (lv_at hl 0 rfl) ?_
  refine aj_callR (As := [.int (nI n), .int (nI 4)]) (rest := [.int (nI 0)]) F (aj_valueIn l (by omega) (by decide)) aj_gX1_X1_valueIn aj_hX1_valueIn (aj_rmR (by decide) (by decide)) rfl rfl hK hP (va_recv (q0 := 0) hK hP (ci := 1) rfl rfl) rfl hl.1 rfl (Nat.le_of_ble_eq_true rfl) ⟨Nat.zero_le _, Nat.zero_le _⟩ dX1_code_15 ?_
  refine aj_iadd hx hb dX1_code_18 ?_
  refine lv_istore_n (lv' := [(2, .int (nI (0 + (aj_vI n 4)))), (3, .int (nI 4)), (0, .ref (bd 0)), (1, .int (nI n))]) hx hb dX1_code_19 rfl hl (by decide) rfl (fun ls hl => ?_)
  refine lv_iinc (v := nI 3) (lv' := [(3, .int (nI 3)), (2, .int (nI (0 + (aj_vI n 4)))), (0, .ref (bd 0)), (1, .int (nI n))]) hx hb dX1_code_20 hl (k := 1) rfl (by decide) (by decide) rfl (fun ls hl => ?_)
  refine lv_goto (tgt := 4) hx hb dX1_code_23 (by decide) ?_
  refine lv_iload_n hx hb dX1_code_4 rfl (lv_at hl 0 rfl) ?_
  refine aj_iflt (tgt := 26) hx hb (by omega) dX1_code_5 (by decide) ?_
  refine lv_bipush (v := nI 8) hx hb dX1_code_8 (by decide) ?_
  refine lv_iload_n hx hb dX1_code_10 rfl (lv_at hl 1 rfl) ?_
  refine aj_imul hx hb dX1_code_11 ?_
  refine lv_aload_n hx hb dX1_code_12 rfl (lv_at hl 2 rfl) ?_
  refine lv_iload_n hx hb dX1_code_13 rfl (lv_at hl 3 rfl) ?_
  refine lv_iload_n hx hb dX1_code_14 rfl (lv_at hl 0 rfl) ?_
  refine aj_callR (As := [.int (nI n), .int (nI 3)]) (rest := [.int (nI (8 * (0 + (aj_vI n 4))))]) F (aj_valueIn l (by omega) (by decide)) aj_gX1_X1_valueIn aj_hX1_valueIn (aj_rmR (by decide) (by decide)) rfl rfl hK hP (va_recv (q0 := 0) hK hP (ci := 1) rfl rfl) rfl hl.1 rfl (Nat.le_of_ble_eq_true rfl) ⟨Nat.zero_le _, Nat.zero_le _⟩ dX1_code_15 ?_
  refine aj_iadd hx hb dX1_code_18 ?_
  refine lv_istore_n (lv' := [(2, .int (nI ((8 * (0 + (aj_vI n 4))) + (aj_vI n 3)))), (3, .int (nI 3)), (0, .ref (bd 0)), (1, .int (nI n))]) hx hb dX1_code_19 rfl hl (by decide) rfl (fun ls hl => ?_)
  refine lv_iinc (v := nI 2) (lv' := [(3, .int (nI 2)), (2, .int (nI ((8 * (0 + (aj_vI n 4))) + (aj_vI n 3)))), (0, .ref (bd 0)), (1, .int (nI n))]) hx hb dX1_code_20 hl (k := 1) rfl (by decide) (by decide) rfl (fun ls hl => ?_)
  refine lv_goto (tgt := 4) hx hb dX1_code_23 (by decide) ?_
  refine lv_iload_n hx hb dX1_code_4 rfl (lv_at hl 0 rfl) ?_
  refine aj_iflt (tgt := 26) hx hb (by omega) dX1_code_5 (by decide) ?_
  refine lv_bipush (v := nI 8) hx hb dX1_code_8 (by decide) ?_
  refine lv_iload_n hx hb dX1_code_10 rfl (lv_at hl 1 rfl) ?_
  refine aj_imul hx hb dX1_code_11 ?_
  refine lv_aload_n hx hb dX1_code_12 rfl (lv_at hl 2 rfl) ?_
  refine lv_iload_n hx hb dX1_code_13 rfl (lv_at hl 3 rfl) ?_
  refine lv_iload_n hx hb dX1_code_14 rfl (lv_at hl 0 rfl) ?_
  refine aj_callR (As := [.int (nI n), .int (nI 2)]) (rest := [.int (nI (8 * ((8 * (0 + (aj_vI n 4))) + (aj_vI n 3))))]) F (aj_valueIn l (by omega) (by decide)) aj_gX1_X1_valueIn aj_hX1_valueIn (aj_rmR (by decide) (by decide)) rfl rfl hK hP (va_recv (q0 := 0) hK hP (ci := 1) rfl rfl) rfl hl.1 rfl (Nat.le_of_ble_eq_true rfl) ⟨Nat.zero_le _, Nat.zero_le _⟩ dX1_code_15 ?_
  refine aj_iadd hx hb dX1_code_18 ?_
  refine lv_istore_n (lv' := [(2, .int (nI ((8 * ((8 * (0 + (aj_vI n 4))) + (aj_vI n 3))) + (aj_vI n 2)))), (3, .int (nI 2)), (0, .ref (bd 0)), (1, .int (nI n))]) hx hb dX1_code_19 rfl hl (by decide) rfl (fun ls hl => ?_)
  refine lv_iinc (v := nI 1) (lv' := [(3, .int (nI 1)), (2, .int (nI ((8 * ((8 * (0 + (aj_vI n 4))) + (aj_vI n 3))) + (aj_vI n 2)))), (0, .ref (bd 0)), (1, .int (nI n))]) hx hb dX1_code_20 hl (k := 1) rfl (by decide) (by decide) rfl (fun ls hl => ?_)
  refine lv_goto (tgt := 4) hx hb dX1_code_23 (by decide) ?_
  refine lv_iload_n hx hb dX1_code_4 rfl (lv_at hl 0 rfl) ?_
  refine aj_iflt (tgt := 26) hx hb (by omega) dX1_code_5 (by decide) ?_
  refine lv_bipush (v := nI 8) hx hb dX1_code_8 (by decide) ?_
  refine lv_iload_n hx hb dX1_code_10 rfl (lv_at hl 1 rfl) ?_
  refine aj_imul hx hb dX1_code_11 ?_
  refine lv_aload_n hx hb dX1_code_12 rfl (lv_at hl 2 rfl) ?_
  refine lv_iload_n hx hb dX1_code_13 rfl (lv_at hl 3 rfl) ?_
  refine lv_iload_n hx hb dX1_code_14 rfl (lv_at hl 0 rfl) ?_
  refine aj_callR (As := [.int (nI n), .int (nI 1)]) (rest := [.int (nI (8 * ((8 * ((8 * (0 + (aj_vI n 4))) + (aj_vI n 3))) + (aj_vI n 2))))]) F (aj_valueIn l (by omega) (by decide)) aj_gX1_X1_valueIn aj_hX1_valueIn (aj_rmR (by decide) (by decide)) rfl rfl hK hP (va_recv (q0 := 0) hK hP (ci := 1) rfl rfl) rfl hl.1 rfl (Nat.le_of_ble_eq_true rfl) ⟨Nat.zero_le _, Nat.zero_le _⟩ dX1_code_15 ?_
  refine aj_iadd hx hb dX1_code_18 ?_
  refine lv_istore_n (lv' := [(2, .int (nI ((8 * ((8 * ((8 * (0 + (aj_vI n 4))) + (aj_vI n 3))) + (aj_vI n 2))) + (aj_vI n 1)))), (3, .int (nI 1)), (0, .ref (bd 0)), (1, .int (nI n))]) hx hb dX1_code_19 rfl hl (by decide) rfl (fun ls hl => ?_)
  refine lv_iinc (v := nI 0) (lv' := [(3, .int (nI 0)), (2, .int (nI ((8 * ((8 * ((8 * (0 + (aj_vI n 4))) + (aj_vI n 3))) + (aj_vI n 2))) + (aj_vI n 1)))), (0, .ref (bd 0)), (1, .int (nI n))]) hx hb dX1_code_20 hl (k := 1) rfl (by decide) (by decide) rfl (fun ls hl => ?_)
  refine lv_goto (tgt := 4) hx hb dX1_code_23 (by decide) ?_
  refine lv_iload_n hx hb dX1_code_4 rfl (lv_at hl 0 rfl) ?_
  refine aj_iflt (tgt := 26) hx hb (by omega) dX1_code_5 (by decide) ?_
  refine lv_bipush (v := nI 8) hx hb dX1_code_8 (by decide) ?_
  refine lv_iload_n hx hb dX1_code_10 rfl (lv_at hl 1 rfl) ?_
  refine aj_imul hx hb dX1_code_11 ?_
  refine lv_aload_n hx hb dX1_code_12 rfl (lv_at hl 2 rfl) ?_
  refine lv_iload_n hx hb dX1_code_13 rfl (lv_at hl 3 rfl) ?_
  refine lv_iload_n hx hb dX1_code_14 rfl (lv_at hl 0 rfl) ?_
  refine aj_callR (As := [.int (nI n), .int (nI 0)]) (rest := [.int (nI (8 * ((8 * ((8 * ((8 * (0 + (aj_vI n 4))) + (aj_vI n 3))) + (aj_vI n 2))) + (aj_vI n 1))))]) F (aj_valueIn l (by omega) (by decide)) aj_gX1_X1_valueIn aj_hX1_valueIn (aj_rmR (by decide) (by decide)) rfl rfl hK hP (va_recv (q0 := 0) hK hP (ci := 1) rfl rfl) rfl hl.1 rfl (Nat.le_of_ble_eq_true rfl) ⟨Nat.zero_le _, Nat.zero_le _⟩ dX1_code_15 ?_
  refine aj_iadd hx hb dX1_code_18 ?_
  refine lv_istore_n (lv' := [(2, .int (nI ((8 * ((8 * ((8 * ((8 * (0 + (aj_vI n 4))) + (aj_vI n 3))) + (aj_vI n 2))) + (aj_vI n 1))) + (aj_vI n 0)))), (3, .int (nI 0)), (0, .ref (bd 0)), (1, .int (nI n))]) hx hb dX1_code_19 rfl hl (by decide) rfl (fun ls hl => ?_)
  refine lv_iinc (v := (-1)) (lv' := [(3, .int (-1)), (2, .int (nI ((8 * ((8 * ((8 * ((8 * (0 + (aj_vI n 4))) + (aj_vI n 3))) + (aj_vI n 2))) + (aj_vI n 1))) + (aj_vI n 0)))), (0, .ref (bd 0)), (1, .int (nI n))]) hx hb dX1_code_20 hl (k := 1) rfl (by decide) (by decide) rfl (fun ls hl => ?_)
  refine lv_goto (tgt := 4) hx hb dX1_code_23 (by decide) ?_
  refine lv_iload_n hx hb dX1_code_4 rfl (lv_at hl 0 rfl) ?_
  refine lv_if_lt (tgt := 26) hx hb dX1_code_5 (by decide) (fun c_5 => ?_) (fun c_5 => ?_)
  ·
    refine lv_iload_n hx hb dX1_code_26 rfl (lv_at hl 1 rfl) ?_
    exact hret (nI ((8 * ((8 * ((8 * ((8 * (0 + (aj_vI n 4))) + (aj_vI n 3))) + (aj_vI n 2))) + (aj_vI n 1))) + (aj_vI n 0))) _ _ dX1_code_27 ((congrArg nI (by show _ = aj_code n; simp only [aj_code, aj_v0, aj_v1, aj_v2, aj_v3, aj_v4]; omega)))
  ·
    exact absurd (by decide) c_5

set_option maxHeartbeats 4000000 in
set_option maxRecDepth 100000 in
theorem aj_number (l : Launch) {D : va_G} {bd : Nat → Nat} {d2 d : ClassId} {M S E : Nat → Int32} {k : Nat} (h1 : k < 32768) : aj_MR l yX1_number cX1_number 4 .int 0 D [(d, .int), (d2, .boolean)] [.ref (bd 0), .int (nI k)] (aj_mP D bd d2 d M S E) (nI (aj_num k)) := by
  refine aj_ro RX1 (by decide) rfl (Nat.le_of_ble_eq_true rfl) (fun v h => aj_nI rfl v) ?_
  intro p e s m args below meth c ls Q F hK hP hl hret
  obtain ⟨hx, hb, hml, hown, hts⟩ := id F
  have hP : va_P D aj_cl (aj_mW bd d2 d M S E) s.heap := hP
  have hl : lv_has ls 4 [(0, .ref (bd 0)), (1, .int (nI k))] := hl
  refine lv_iconst (v := nI 0) hx hb dX1_number_0 (by decide) ?_
  refine lv_istore_n (lv' := [(2, .int (nI 0)), (0, .ref (bd 0)), (1, .int (nI k))]) hx hb dX1_number_1 rfl hl (by decide) rfl (fun ls hl => ?_)
  refine lv_iconst (v := nI 0) hx hb dX1_number_2 (by decide) ?_
  refine lv_istore_n (lv' := [(3, .int (nI 0)), (2, .int (nI 0)), (0, .ref (bd 0)), (1, .int (nI k))]) hx hb dX1_number_3 rfl hl (by decide) rfl (fun ls hl => ?_)
  refine lv_iload_n hx hb dX1_number_4 rfl (lv_at hl 0 rfl) ?_
  refine lv_iconst (v := nI 5) hx hb dX1_number_5 (by decide) ?_
  refine aj_ge (tgt := 29) hx hb (by decide) (by decide) dX1_number_6 (by decide) (fun c_6 => ?_) (fun c_6 => ?_)
  ·
    exfalso; omega
  ·
    refine lv_bipush (v := nI 8) hx hb dX1_number_9 (by decide) ?_
    refine lv_iload_n hx hb dX1_number_11 rfl (lv_at hl 1 rfl) ?_
    refine aj_imul hx hb dX1_number_12 ?_
    refine lv_iload_n hx hb dX1_number_13 rfl (lv_at hl 3 rfl) ?_
    refine lv_iconst (v := nI 3) hx hb dX1_number_14 (by decide) ?_
    refine lv_iload_n hx hb dX1_number_15 rfl (lv_at hl 0 rfl) ?_
    refine aj_imul hx hb dX1_number_16 ?_
    refine lv_ishr hx hb dX1_number_17 ?_
    refine aj_top (y := nI (k / 1)) (aj_shrK (k := 0) (by omega) (by decide)) ?_
    refine lv_bipush (v := nI 7) hx hb dX1_number_18 (by decide) ?_
    refine lv_iand hx hb dX1_number_20 ?_
    refine aj_top (y := nI (k / 1 % 8)) (aj_and7 (by omega)) ?_
    refine aj_iadd hx hb dX1_number_21 ?_
    refine lv_istore_n (lv' := [(2, .int (nI (0 + (k / 1 % 8)))), (3, .int (nI 0)), (0, .ref (bd 0)), (1, .int (nI k))]) hx hb dX1_number_22 rfl hl (by decide) rfl (fun ls hl => ?_)
    refine lv_iinc (v := nI 1) (lv' := [(3, .int (nI 1)), (2, .int (nI (0 + (k / 1 % 8)))), (0, .ref (bd 0)), (1, .int (nI k))]) hx hb dX1_number_23 hl (k := 1) rfl (nI_add 0 1) (by decide) rfl (fun ls hl => ?_)
    refine lv_goto (tgt := 4) hx hb dX1_number_26 (by decide) ?_
    refine lv_iload_n hx hb dX1_number_4 rfl (lv_at hl 0 rfl) ?_
    refine lv_iconst (v := nI 5) hx hb dX1_number_5 (by decide) ?_
    refine aj_ge (tgt := 29) hx hb (by decide) (by decide) dX1_number_6 (by decide) (fun c_6 => ?_) (fun c_6 => ?_)
    ·
      exfalso; omega
    ·
      refine lv_bipush (v := nI 8) hx hb dX1_number_9 (by decide) ?_
      refine lv_iload_n hx hb dX1_number_11 rfl (lv_at hl 1 rfl) ?_
      refine aj_imul hx hb dX1_number_12 ?_
      refine lv_iload_n hx hb dX1_number_13 rfl (lv_at hl 3 rfl) ?_
      refine lv_iconst (v := nI 3) hx hb dX1_number_14 (by decide) ?_
      refine lv_iload_n hx hb dX1_number_15 rfl (lv_at hl 0 rfl) ?_
      refine aj_imul hx hb dX1_number_16 ?_
      refine lv_ishr hx hb dX1_number_17 ?_
      refine aj_top (y := nI (k / 8)) (aj_shrK (k := 3) (by omega) (by decide)) ?_
      refine lv_bipush (v := nI 7) hx hb dX1_number_18 (by decide) ?_
      refine lv_iand hx hb dX1_number_20 ?_
      refine aj_top (y := nI (k / 8 % 8)) (aj_and7 (by omega)) ?_
      refine aj_iadd hx hb dX1_number_21 ?_
      refine lv_istore_n (lv' := [(2, .int (nI ((8 * (0 + (k / 1 % 8))) + (k / 8 % 8)))), (3, .int (nI 1)), (0, .ref (bd 0)), (1, .int (nI k))]) hx hb dX1_number_22 rfl hl (by decide) rfl (fun ls hl => ?_)
      refine lv_iinc (v := nI 2) (lv' := [(3, .int (nI 2)), (2, .int (nI ((8 * (0 + (k / 1 % 8))) + (k / 8 % 8)))), (0, .ref (bd 0)), (1, .int (nI k))]) hx hb dX1_number_23 hl (k := 1) rfl (nI_add 1 1) (by decide) rfl (fun ls hl => ?_)
      refine lv_goto (tgt := 4) hx hb dX1_number_26 (by decide) ?_
      refine lv_iload_n hx hb dX1_number_4 rfl (lv_at hl 0 rfl) ?_
      refine lv_iconst (v := nI 5) hx hb dX1_number_5 (by decide) ?_
      refine aj_ge (tgt := 29) hx hb (by decide) (by decide) dX1_number_6 (by decide) (fun c_6 => ?_) (fun c_6 => ?_)
      ·
        exfalso; omega
      ·
        refine lv_bipush (v := nI 8) hx hb dX1_number_9 (by decide) ?_
        refine lv_iload_n hx hb dX1_number_11 rfl (lv_at hl 1 rfl) ?_
        refine aj_imul hx hb dX1_number_12 ?_
        refine lv_iload_n hx hb dX1_number_13 rfl (lv_at hl 3 rfl) ?_
        refine lv_iconst (v := nI 3) hx hb dX1_number_14 (by decide) ?_
        refine lv_iload_n hx hb dX1_number_15 rfl (lv_at hl 0 rfl) ?_
        refine aj_imul hx hb dX1_number_16 ?_
        refine lv_ishr hx hb dX1_number_17 ?_
        refine aj_top (y := nI (k / 64)) (aj_shrK (k := 6) (by omega) (by decide)) ?_
        refine lv_bipush (v := nI 7) hx hb dX1_number_18 (by decide) ?_
        refine lv_iand hx hb dX1_number_20 ?_
        refine aj_top (y := nI (k / 64 % 8)) (aj_and7 (by omega)) ?_
        refine aj_iadd hx hb dX1_number_21 ?_
        refine lv_istore_n (lv' := [(2, .int (nI ((8 * ((8 * (0 + (k / 1 % 8))) + (k / 8 % 8))) + (k / 64 % 8)))), (3, .int (nI 2)), (0, .ref (bd 0)), (1, .int (nI k))]) hx hb dX1_number_22 rfl hl (by decide) rfl (fun ls hl => ?_)
        refine lv_iinc (v := nI 3) (lv' := [(3, .int (nI 3)), (2, .int (nI ((8 * ((8 * (0 + (k / 1 % 8))) + (k / 8 % 8))) + (k / 64 % 8)))), (0, .ref (bd 0)), (1, .int (nI k))]) hx hb dX1_number_23 hl (k := 1) rfl (nI_add 2 1) (by decide) rfl (fun ls hl => ?_)
        refine lv_goto (tgt := 4) hx hb dX1_number_26 (by decide) ?_
        refine lv_iload_n hx hb dX1_number_4 rfl (lv_at hl 0 rfl) ?_
        refine lv_iconst (v := nI 5) hx hb dX1_number_5 (by decide) ?_
        refine aj_ge (tgt := 29) hx hb (by decide) (by decide) dX1_number_6 (by decide) (fun c_6 => ?_) (fun c_6 => ?_)
        ·
          exfalso; omega
        ·
          refine lv_bipush (v := nI 8) hx hb dX1_number_9 (by decide) ?_
          refine lv_iload_n hx hb dX1_number_11 rfl (lv_at hl 1 rfl) ?_
          refine aj_imul hx hb dX1_number_12 ?_
          refine lv_iload_n hx hb dX1_number_13 rfl (lv_at hl 3 rfl) ?_
          refine lv_iconst (v := nI 3) hx hb dX1_number_14 (by decide) ?_
          refine lv_iload_n hx hb dX1_number_15 rfl (lv_at hl 0 rfl) ?_
          refine aj_imul hx hb dX1_number_16 ?_
          refine lv_ishr hx hb dX1_number_17 ?_
          refine aj_top (y := nI (k / 512)) (aj_shrK (k := 9) (by omega) (by decide)) ?_
          refine lv_bipush (v := nI 7) hx hb dX1_number_18 (by decide) ?_
          refine lv_iand hx hb dX1_number_20 ?_
          refine aj_top (y := nI (k / 512 % 8)) (aj_and7 (by omega)) ?_
          refine aj_iadd hx hb dX1_number_21 ?_
          refine lv_istore_n (lv' := [(2, .int (nI ((8 * ((8 * ((8 * (0 + (k / 1 % 8))) + (k / 8 % 8))) + (k / 64 % 8))) + (k / 512 % 8)))), (3, .int (nI 3)), (0, .ref (bd 0)), (1, .int (nI k))]) hx hb dX1_number_22 rfl hl (by decide) rfl (fun ls hl => ?_)
          refine lv_iinc (v := nI 4) (lv' := [(3, .int (nI 4)), (2, .int (nI ((8 * ((8 * ((8 * (0 + (k / 1 % 8))) + (k / 8 % 8))) + (k / 64 % 8))) + (k / 512 % 8)))), (0, .ref (bd 0)), (1, .int (nI k))]) hx hb dX1_number_23 hl (k := 1) rfl (nI_add 3 1) (by decide) rfl (fun ls hl => ?_)
          refine lv_goto (tgt := 4) hx hb dX1_number_26 (by decide) ?_
          refine lv_iload_n hx hb dX1_number_4 rfl (lv_at hl 0 rfl) ?_
          refine lv_iconst (v := nI 5) hx hb dX1_number_5 (by decide) ?_
          refine aj_ge (tgt := 29) hx hb (by decide) (by decide) dX1_number_6 (by decide) (fun c_6 => ?_) (fun c_6 => ?_)
          ·
            exfalso; omega
          ·
            refine lv_bipush (v := nI 8) hx hb dX1_number_9 (by decide) ?_
            refine lv_iload_n hx hb dX1_number_11 rfl (lv_at hl 1 rfl) ?_
            refine aj_imul hx hb dX1_number_12 ?_
            refine lv_iload_n hx hb dX1_number_13 rfl (lv_at hl 3 rfl) ?_
            refine lv_iconst (v := nI 3) hx hb dX1_number_14 (by decide) ?_
            refine lv_iload_n hx hb dX1_number_15 rfl (lv_at hl 0 rfl) ?_
            refine aj_imul hx hb dX1_number_16 ?_
            refine lv_ishr hx hb dX1_number_17 ?_
            refine aj_top (y := nI (k / 4096)) (aj_shrK (k := 12) (by omega) (by decide)) ?_
            refine lv_bipush (v := nI 7) hx hb dX1_number_18 (by decide) ?_
            refine lv_iand hx hb dX1_number_20 ?_
            refine aj_top (y := nI (k / 4096 % 8)) (aj_and7 (by omega)) ?_
            refine aj_iadd hx hb dX1_number_21 ?_
            refine lv_istore_n (lv' := [(2, .int (nI ((8 * ((8 * ((8 * ((8 * (0 + (k / 1 % 8))) + (k / 8 % 8))) + (k / 64 % 8))) + (k / 512 % 8))) + (k / 4096 % 8)))), (3, .int (nI 4)), (0, .ref (bd 0)), (1, .int (nI k))]) hx hb dX1_number_22 rfl hl (by decide) rfl (fun ls hl => ?_)
            refine lv_iinc (v := nI 5) (lv' := [(3, .int (nI 5)), (2, .int (nI ((8 * ((8 * ((8 * ((8 * (0 + (k / 1 % 8))) + (k / 8 % 8))) + (k / 64 % 8))) + (k / 512 % 8))) + (k / 4096 % 8)))), (0, .ref (bd 0)), (1, .int (nI k))]) hx hb dX1_number_23 hl (k := 1) rfl (nI_add 4 1) (by decide) rfl (fun ls hl => ?_)
            refine lv_goto (tgt := 4) hx hb dX1_number_26 (by decide) ?_
            refine lv_iload_n hx hb dX1_number_4 rfl (lv_at hl 0 rfl) ?_
            refine lv_iconst (v := nI 5) hx hb dX1_number_5 (by decide) ?_
            refine aj_ge (tgt := 29) hx hb (by decide) (by decide) dX1_number_6 (by decide) (fun c_6 => ?_) (fun c_6 => ?_)
            ·
              refine lv_iload_n hx hb dX1_number_29 rfl (lv_at hl 1 rfl) ?_
              exact hret (nI ((8 * ((8 * ((8 * ((8 * (0 + (k / 1 % 8))) + (k / 8 % 8))) + (k / 64 % 8))) + (k / 512 % 8))) + (k / 4096 % 8))) _ _ dX1_number_30 ((congrArg nI (by show _ = aj_num k; simp only [aj_num]; omega)))
            ·
              exfalso; omega

set_option maxHeartbeats 4000000 in
set_option maxRecDepth 100000 in
theorem aj_rowOf0 (l : Launch) {D : va_G} {bd : Nat → Nat} {d2 d : ClassId} {M S E : Nat → Int32} {n : Nat} (h1 : n < 32768) : aj_MR l yX1_rowOf cX1_rowOf 5 .int 1 D [(d, .int), (d2, .boolean)] [.ref (bd 0), .int (nI n), .int (nI 0)] (aj_mP D bd d2 d M S E) (nI (aj_rO n 0)) := by
  refine aj_ro RX1 (by decide) rfl (Nat.le_of_ble_eq_true rfl) (fun v h => aj_nI rfl v) ?_
  intro p e s m args below meth c ls Q F hK hP hl hret
  obtain ⟨hx, hb, hml, hown, hts⟩ := id F
  have hP : va_P D aj_cl (aj_mW bd d2 d M S E) s.heap := hP
  have hl : lv_has ls 5 [(0, .ref (bd 0)), (1, .int (nI n)), (2, .int (nI 0))] := hl
  refine lv_iload_n hx hb dX1_rowOf_0 rfl (lv_at hl 2 rfl) ?_
  refine aj_ifne (tgt := 8) hx hb (by omega) dX1_rowOf_1 (by decide) (fun c_1 => ?_) (fun c_1 => ?_)
  ·
    exfalso; omega
  ·
    refine lv_iconst (v := nI 0) hx hb dX1_rowOf_4 (by decide) ?_
    refine lv_goto (tgt := 18) hx hb dX1_rowOf_5 (by decide) ?_
    refine lv_istore_n (lv' := [(3, .int (nI 0)), (0, .ref (bd 0)), (1, .int (nI n)), (2, .int (nI 0))]) hx hb dX1_rowOf_18 rfl hl (by decide) rfl (fun ls hl => ?_)
    refine lv_iload_n hx hb dX1_rowOf_19 rfl (lv_at hl 3 rfl) ?_
    refine aj_ifne (tgt := 27) hx hb (by omega) dX1_rowOf_20 (by decide) (fun c_20 => ?_) (fun c_20 => ?_)
    ·
      exfalso; omega
    ·
      refine lv_iconst (v := nI 1) hx hb dX1_rowOf_23 (by decide) ?_
      refine lv_goto (tgt := 46) hx hb dX1_rowOf_24 (by decide) ?_
      refine lv_istore (lv' := [(4, .int (nI 1)), (3, .int (nI 0)), (0, .ref (bd 0)), (1, .int (nI n)), (2, .int (nI 0))]) hx hb dX1_rowOf_46 hl (by decide) rfl (fun ls hl => ?_)
      refine lv_bipush (v := nI 64) hx hb dX1_rowOf_48 (by decide) ?_
      refine lv_iload_n hx hb dX1_rowOf_50 rfl (lv_at hl 4 rfl) ?_
      refine aj_imul hx hb dX1_rowOf_51 ?_
      refine lv_bipush (v := nI 8) hx hb dX1_rowOf_52 (by decide) ?_
      refine lv_aload_n hx hb dX1_rowOf_54 rfl (lv_at hl 2 rfl) ?_
      refine lv_iload_n hx hb dX1_rowOf_55 rfl (lv_at hl 3 rfl) ?_
      refine lv_iload_n hx hb dX1_rowOf_56 rfl (lv_at hl 1 rfl) ?_
      refine aj_callR (As := [.int (nI n), .int (nI 0)]) (rest := [.int (nI 8), .int (nI 0)]) F (aj_valueIn l (by omega) (by decide)) aj_gX1_X1_valueIn aj_hX1_valueIn (aj_rmR (by decide) (by decide)) rfl rfl hK hP (va_recv (q0 := 0) hK hP (ci := 1) rfl rfl) rfl hl.1 rfl (Nat.le_of_ble_eq_true rfl) ⟨Nat.zero_le _, Nat.zero_le _⟩ dX1_rowOf_57 ?_
      refine aj_imul hx hb dX1_rowOf_60 ?_
      refine aj_iadd hx hb dX1_rowOf_61 ?_
      refine lv_aload_n hx hb dX1_rowOf_62 rfl (lv_at hl 2 rfl) ?_
      refine lv_iload_n hx hb dX1_rowOf_63 rfl (lv_at hl 3 rfl) ?_
      refine lv_iload hx hb dX1_rowOf_64 (lv_at hl 0 rfl) ?_
      refine aj_callR (As := [.int (nI n), .int (nI 1)]) (rest := [.int (nI (0 + (8 * (aj_vI n 0))))]) F (aj_valueIn l (by omega) (by decide)) aj_gX1_X1_valueIn aj_hX1_valueIn (aj_rmR (by decide) (by decide)) rfl rfl hK hP (va_recv (q0 := 0) hK hP (ci := 1) rfl rfl) rfl hl.1 rfl (Nat.le_of_ble_eq_true rfl) ⟨Nat.zero_le _, Nat.zero_le _⟩ dX1_rowOf_66 ?_
      refine aj_iadd hx hb dX1_rowOf_69 ?_
      exact hret (nI ((0 + (8 * (aj_vI n 0))) + (aj_vI n 1))) _ _ dX1_rowOf_70 ((congrArg nI (by simp [aj_rO])))

set_option maxHeartbeats 4000000 in
set_option maxRecDepth 100000 in
theorem aj_rowOf1 (l : Launch) {D : va_G} {bd : Nat → Nat} {d2 d : ClassId} {M S E : Nat → Int32} {n : Nat} (h1 : n < 32768) : aj_MR l yX1_rowOf cX1_rowOf 5 .int 1 D [(d, .int), (d2, .boolean)] [.ref (bd 0), .int (nI n), .int (nI 1)] (aj_mP D bd d2 d M S E) (nI (aj_rO n 1)) := by
  refine aj_ro RX1 (by decide) rfl (Nat.le_of_ble_eq_true rfl) (fun v h => aj_nI rfl v) ?_
  intro p e s m args below meth c ls Q F hK hP hl hret
  obtain ⟨hx, hb, hml, hown, hts⟩ := id F
  have hP : va_P D aj_cl (aj_mW bd d2 d M S E) s.heap := hP
  have hl : lv_has ls 5 [(0, .ref (bd 0)), (1, .int (nI n)), (2, .int (nI 1))] := hl
  refine lv_iload_n hx hb dX1_rowOf_0 rfl (lv_at hl 2 rfl) ?_
  refine aj_ifne (tgt := 8) hx hb (by omega) dX1_rowOf_1 (by decide) (fun c_1 => ?_) (fun c_1 => ?_)
  ·
    refine lv_iload_n hx hb dX1_rowOf_8 rfl (lv_at hl 2 rfl) ?_
    refine lv_iconst (v := nI 2) hx hb dX1_rowOf_9 (by decide) ?_
    refine aj_ne (tgt := 17) hx hb (by decide) (by decide) dX1_rowOf_10 (by decide) (fun c_10 => ?_) (fun c_10 => ?_)
    ·
      refine lv_iconst (v := nI 1) hx hb dX1_rowOf_17 (by decide) ?_
      refine lv_istore_n (lv' := [(3, .int (nI 1)), (0, .ref (bd 0)), (1, .int (nI n)), (2, .int (nI 1))]) hx hb dX1_rowOf_18 rfl hl (by decide) rfl (fun ls hl => ?_)
      refine lv_iload_n hx hb dX1_rowOf_19 rfl (lv_at hl 3 rfl) ?_
      refine aj_ifne (tgt := 27) hx hb (by omega) dX1_rowOf_20 (by decide) (fun c_20 => ?_) (fun c_20 => ?_)
      ·
        refine lv_iload_n hx hb dX1_rowOf_27 rfl (lv_at hl 3 rfl) ?_
        refine lv_iconst (v := nI 1) hx hb dX1_rowOf_28 (by decide) ?_
        refine aj_ne (tgt := 36) hx hb (by decide) (by decide) dX1_rowOf_29 (by decide) (fun c_29 => ?_) (fun c_29 => ?_)
        ·
          exfalso; omega
        ·
          refine lv_iconst (v := nI 2) hx hb dX1_rowOf_32 (by decide) ?_
          refine lv_goto (tgt := 46) hx hb dX1_rowOf_33 (by decide) ?_
          refine lv_istore (lv' := [(4, .int (nI 2)), (3, .int (nI 1)), (0, .ref (bd 0)), (1, .int (nI n)), (2, .int (nI 1))]) hx hb dX1_rowOf_46 hl (by decide) rfl (fun ls hl => ?_)
          refine lv_bipush (v := nI 64) hx hb dX1_rowOf_48 (by decide) ?_
          refine lv_iload_n hx hb dX1_rowOf_50 rfl (lv_at hl 4 rfl) ?_
          refine aj_imul hx hb dX1_rowOf_51 ?_
          refine lv_bipush (v := nI 8) hx hb dX1_rowOf_52 (by decide) ?_
          refine lv_aload_n hx hb dX1_rowOf_54 rfl (lv_at hl 2 rfl) ?_
          refine lv_iload_n hx hb dX1_rowOf_55 rfl (lv_at hl 3 rfl) ?_
          refine lv_iload_n hx hb dX1_rowOf_56 rfl (lv_at hl 1 rfl) ?_
          refine aj_callR (As := [.int (nI n), .int (nI 1)]) (rest := [.int (nI 8), .int (nI 64)]) F (aj_valueIn l (by omega) (by decide)) aj_gX1_X1_valueIn aj_hX1_valueIn (aj_rmR (by decide) (by decide)) rfl rfl hK hP (va_recv (q0 := 0) hK hP (ci := 1) rfl rfl) rfl hl.1 rfl (Nat.le_of_ble_eq_true rfl) ⟨Nat.zero_le _, Nat.zero_le _⟩ dX1_rowOf_57 ?_
          refine aj_imul hx hb dX1_rowOf_60 ?_
          refine aj_iadd hx hb dX1_rowOf_61 ?_
          refine lv_aload_n hx hb dX1_rowOf_62 rfl (lv_at hl 2 rfl) ?_
          refine lv_iload_n hx hb dX1_rowOf_63 rfl (lv_at hl 3 rfl) ?_
          refine lv_iload hx hb dX1_rowOf_64 (lv_at hl 0 rfl) ?_
          refine aj_callR (As := [.int (nI n), .int (nI 2)]) (rest := [.int (nI (64 + (8 * (aj_vI n 1))))]) F (aj_valueIn l (by omega) (by decide)) aj_gX1_X1_valueIn aj_hX1_valueIn (aj_rmR (by decide) (by decide)) rfl rfl hK hP (va_recv (q0 := 0) hK hP (ci := 1) rfl rfl) rfl hl.1 rfl (Nat.le_of_ble_eq_true rfl) ⟨Nat.zero_le _, Nat.zero_le _⟩ dX1_rowOf_66 ?_
          refine aj_iadd hx hb dX1_rowOf_69 ?_
          exact hret (nI ((64 + (8 * (aj_vI n 1))) + (aj_vI n 2))) _ _ dX1_rowOf_70 ((congrArg nI (by simp [aj_rO])))
      ·
        exfalso; omega
    ·
      exfalso; omega
  ·
    exfalso; omega

set_option maxHeartbeats 4000000 in
set_option maxRecDepth 100000 in
theorem aj_rowOf2 (l : Launch) {D : va_G} {bd : Nat → Nat} {d2 d : ClassId} {M S E : Nat → Int32} {n : Nat} (h1 : n < 32768) : aj_MR l yX1_rowOf cX1_rowOf 5 .int 1 D [(d, .int), (d2, .boolean)] [.ref (bd 0), .int (nI n), .int (nI 2)] (aj_mP D bd d2 d M S E) (nI (aj_rO n 2)) := by
  refine aj_ro RX1 (by decide) rfl (Nat.le_of_ble_eq_true rfl) (fun v h => aj_nI rfl v) ?_
  intro p e s m args below meth c ls Q F hK hP hl hret
  obtain ⟨hx, hb, hml, hown, hts⟩ := id F
  have hP : va_P D aj_cl (aj_mW bd d2 d M S E) s.heap := hP
  have hl : lv_has ls 5 [(0, .ref (bd 0)), (1, .int (nI n)), (2, .int (nI 2))] := hl
  refine lv_iload_n hx hb dX1_rowOf_0 rfl (lv_at hl 2 rfl) ?_
  refine aj_ifne (tgt := 8) hx hb (by omega) dX1_rowOf_1 (by decide) (fun c_1 => ?_) (fun c_1 => ?_)
  ·
    refine lv_iload_n hx hb dX1_rowOf_8 rfl (lv_at hl 2 rfl) ?_
    refine lv_iconst (v := nI 2) hx hb dX1_rowOf_9 (by decide) ?_
    refine aj_ne (tgt := 17) hx hb (by decide) (by decide) dX1_rowOf_10 (by decide) (fun c_10 => ?_) (fun c_10 => ?_)
    ·
      exfalso; omega
    ·
      refine lv_iconst (v := nI 2) hx hb dX1_rowOf_13 (by decide) ?_
      refine lv_goto (tgt := 18) hx hb dX1_rowOf_14 (by decide) ?_
      refine lv_istore_n (lv' := [(3, .int (nI 2)), (0, .ref (bd 0)), (1, .int (nI n)), (2, .int (nI 2))]) hx hb dX1_rowOf_18 rfl hl (by decide) rfl (fun ls hl => ?_)
      refine lv_iload_n hx hb dX1_rowOf_19 rfl (lv_at hl 3 rfl) ?_
      refine aj_ifne (tgt := 27) hx hb (by omega) dX1_rowOf_20 (by decide) (fun c_20 => ?_) (fun c_20 => ?_)
      ·
        refine lv_iload_n hx hb dX1_rowOf_27 rfl (lv_at hl 3 rfl) ?_
        refine lv_iconst (v := nI 1) hx hb dX1_rowOf_28 (by decide) ?_
        refine aj_ne (tgt := 36) hx hb (by decide) (by decide) dX1_rowOf_29 (by decide) (fun c_29 => ?_) (fun c_29 => ?_)
        ·
          refine lv_iload_n hx hb dX1_rowOf_36 rfl (lv_at hl 3 rfl) ?_
          refine lv_iconst (v := nI 2) hx hb dX1_rowOf_37 (by decide) ?_
          refine aj_ne (tgt := 45) hx hb (by decide) (by decide) dX1_rowOf_38 (by decide) (fun c_38 => ?_) (fun c_38 => ?_)
          ·
            exfalso; omega
          ·
            refine lv_iconst (v := nI 3) hx hb dX1_rowOf_41 (by decide) ?_
            refine lv_goto (tgt := 46) hx hb dX1_rowOf_42 (by decide) ?_
            refine lv_istore (lv' := [(4, .int (nI 3)), (3, .int (nI 2)), (0, .ref (bd 0)), (1, .int (nI n)), (2, .int (nI 2))]) hx hb dX1_rowOf_46 hl (by decide) rfl (fun ls hl => ?_)
            refine lv_bipush (v := nI 64) hx hb dX1_rowOf_48 (by decide) ?_
            refine lv_iload_n hx hb dX1_rowOf_50 rfl (lv_at hl 4 rfl) ?_
            refine aj_imul hx hb dX1_rowOf_51 ?_
            refine lv_bipush (v := nI 8) hx hb dX1_rowOf_52 (by decide) ?_
            refine lv_aload_n hx hb dX1_rowOf_54 rfl (lv_at hl 2 rfl) ?_
            refine lv_iload_n hx hb dX1_rowOf_55 rfl (lv_at hl 3 rfl) ?_
            refine lv_iload_n hx hb dX1_rowOf_56 rfl (lv_at hl 1 rfl) ?_
            refine aj_callR (As := [.int (nI n), .int (nI 2)]) (rest := [.int (nI 8), .int (nI 128)]) F (aj_valueIn l (by omega) (by decide)) aj_gX1_X1_valueIn aj_hX1_valueIn (aj_rmR (by decide) (by decide)) rfl rfl hK hP (va_recv (q0 := 0) hK hP (ci := 1) rfl rfl) rfl hl.1 rfl (Nat.le_of_ble_eq_true rfl) ⟨Nat.zero_le _, Nat.zero_le _⟩ dX1_rowOf_57 ?_
            refine aj_imul hx hb dX1_rowOf_60 ?_
            refine aj_iadd hx hb dX1_rowOf_61 ?_
            refine lv_aload_n hx hb dX1_rowOf_62 rfl (lv_at hl 2 rfl) ?_
            refine lv_iload_n hx hb dX1_rowOf_63 rfl (lv_at hl 3 rfl) ?_
            refine lv_iload hx hb dX1_rowOf_64 (lv_at hl 0 rfl) ?_
            refine aj_callR (As := [.int (nI n), .int (nI 3)]) (rest := [.int (nI (128 + (8 * (aj_vI n 2))))]) F (aj_valueIn l (by omega) (by decide)) aj_gX1_X1_valueIn aj_hX1_valueIn (aj_rmR (by decide) (by decide)) rfl rfl hK hP (va_recv (q0 := 0) hK hP (ci := 1) rfl rfl) rfl hl.1 rfl (Nat.le_of_ble_eq_true rfl) ⟨Nat.zero_le _, Nat.zero_le _⟩ dX1_rowOf_66 ?_
            refine aj_iadd hx hb dX1_rowOf_69 ?_
            exact hret (nI ((128 + (8 * (aj_vI n 2))) + (aj_vI n 3))) _ _ dX1_rowOf_70 ((congrArg nI (by simp [aj_rO])))
        ·
          exfalso; omega
      ·
        exfalso; omega
  ·
    exfalso; omega

set_option maxHeartbeats 4000000 in
set_option maxRecDepth 100000 in
theorem aj_rowOf3 (l : Launch) {D : va_G} {bd : Nat → Nat} {d2 d : ClassId} {M S E : Nat → Int32} {n : Nat} (h1 : n < 32768) : aj_MR l yX1_rowOf cX1_rowOf 5 .int 1 D [(d, .int), (d2, .boolean)] [.ref (bd 0), .int (nI n), .int (nI 3)] (aj_mP D bd d2 d M S E) (nI (aj_rO n 3)) := by
  refine aj_ro RX1 (by decide) rfl (Nat.le_of_ble_eq_true rfl) (fun v h => aj_nI rfl v) ?_
  intro p e s m args below meth c ls Q F hK hP hl hret
  obtain ⟨hx, hb, hml, hown, hts⟩ := id F
  have hP : va_P D aj_cl (aj_mW bd d2 d M S E) s.heap := hP
  have hl : lv_has ls 5 [(0, .ref (bd 0)), (1, .int (nI n)), (2, .int (nI 3))] := hl
  refine lv_iload_n hx hb dX1_rowOf_0 rfl (lv_at hl 2 rfl) ?_
  refine aj_ifne (tgt := 8) hx hb (by omega) dX1_rowOf_1 (by decide) (fun c_1 => ?_) (fun c_1 => ?_)
  ·
    refine lv_iload_n hx hb dX1_rowOf_8 rfl (lv_at hl 2 rfl) ?_
    refine lv_iconst (v := nI 2) hx hb dX1_rowOf_9 (by decide) ?_
    refine aj_ne (tgt := 17) hx hb (by decide) (by decide) dX1_rowOf_10 (by decide) (fun c_10 => ?_) (fun c_10 => ?_)
    ·
      refine lv_iconst (v := nI 1) hx hb dX1_rowOf_17 (by decide) ?_
      refine lv_istore_n (lv' := [(3, .int (nI 1)), (0, .ref (bd 0)), (1, .int (nI n)), (2, .int (nI 3))]) hx hb dX1_rowOf_18 rfl hl (by decide) rfl (fun ls hl => ?_)
      refine lv_iload_n hx hb dX1_rowOf_19 rfl (lv_at hl 3 rfl) ?_
      refine aj_ifne (tgt := 27) hx hb (by omega) dX1_rowOf_20 (by decide) (fun c_20 => ?_) (fun c_20 => ?_)
      ·
        refine lv_iload_n hx hb dX1_rowOf_27 rfl (lv_at hl 3 rfl) ?_
        refine lv_iconst (v := nI 1) hx hb dX1_rowOf_28 (by decide) ?_
        refine aj_ne (tgt := 36) hx hb (by decide) (by decide) dX1_rowOf_29 (by decide) (fun c_29 => ?_) (fun c_29 => ?_)
        ·
          refine lv_iload_n hx hb dX1_rowOf_36 rfl (lv_at hl 3 rfl) ?_
          refine lv_iconst (v := nI 2) hx hb dX1_rowOf_37 (by decide) ?_
          refine aj_ne (tgt := 45) hx hb (by decide) (by decide) dX1_rowOf_38 (by decide) (fun c_38 => ?_) (fun c_38 => ?_)
          ·
            refine lv_iconst (v := nI 4) hx hb dX1_rowOf_45 (by decide) ?_
            refine lv_istore (lv' := [(4, .int (nI 4)), (3, .int (nI 1)), (0, .ref (bd 0)), (1, .int (nI n)), (2, .int (nI 3))]) hx hb dX1_rowOf_46 hl (by decide) rfl (fun ls hl => ?_)
            refine lv_bipush (v := nI 64) hx hb dX1_rowOf_48 (by decide) ?_
            refine lv_iload_n hx hb dX1_rowOf_50 rfl (lv_at hl 4 rfl) ?_
            refine aj_imul hx hb dX1_rowOf_51 ?_
            refine lv_bipush (v := nI 8) hx hb dX1_rowOf_52 (by decide) ?_
            refine lv_aload_n hx hb dX1_rowOf_54 rfl (lv_at hl 2 rfl) ?_
            refine lv_iload_n hx hb dX1_rowOf_55 rfl (lv_at hl 3 rfl) ?_
            refine lv_iload_n hx hb dX1_rowOf_56 rfl (lv_at hl 1 rfl) ?_
            refine aj_callR (As := [.int (nI n), .int (nI 1)]) (rest := [.int (nI 8), .int (nI 192)]) F (aj_valueIn l (by omega) (by decide)) aj_gX1_X1_valueIn aj_hX1_valueIn (aj_rmR (by decide) (by decide)) rfl rfl hK hP (va_recv (q0 := 0) hK hP (ci := 1) rfl rfl) rfl hl.1 rfl (Nat.le_of_ble_eq_true rfl) ⟨Nat.zero_le _, Nat.zero_le _⟩ dX1_rowOf_57 ?_
            refine aj_imul hx hb dX1_rowOf_60 ?_
            refine aj_iadd hx hb dX1_rowOf_61 ?_
            refine lv_aload_n hx hb dX1_rowOf_62 rfl (lv_at hl 2 rfl) ?_
            refine lv_iload_n hx hb dX1_rowOf_63 rfl (lv_at hl 3 rfl) ?_
            refine lv_iload hx hb dX1_rowOf_64 (lv_at hl 0 rfl) ?_
            refine aj_callR (As := [.int (nI n), .int (nI 4)]) (rest := [.int (nI (192 + (8 * (aj_vI n 1))))]) F (aj_valueIn l (by omega) (by decide)) aj_gX1_X1_valueIn aj_hX1_valueIn (aj_rmR (by decide) (by decide)) rfl rfl hK hP (va_recv (q0 := 0) hK hP (ci := 1) rfl rfl) rfl hl.1 rfl (Nat.le_of_ble_eq_true rfl) ⟨Nat.zero_le _, Nat.zero_le _⟩ dX1_rowOf_66 ?_
            refine aj_iadd hx hb dX1_rowOf_69 ?_
            exact hret (nI ((192 + (8 * (aj_vI n 1))) + (aj_vI n 4))) _ _ dX1_rowOf_70 ((congrArg nI (by simp [aj_rO])))
          ·
            exfalso; omega
        ·
          exfalso; omega
      ·
        exfalso; omega
    ·
      exfalso; omega
  ·
    exfalso; omega

theorem aj_rowOf (l : Launch) {D : va_G} {bd : Nat → Nat} {d2 d : ClassId} {M S E : Nat → Int32} {n i : Nat} (h1 : n < 32768) (h2 : i < 4) : aj_MR l yX1_rowOf cX1_rowOf 5 .int 1 D [(d, .int), (d2, .boolean)] [.ref (bd 0), .int (nI n), .int (nI i)] (aj_mP D bd d2 d M S E) (nI (aj_rO n i)) := by
  match i, h2 with
  | 0, _ => exact aj_rowOf0 l h1
  | 1, _ => exact aj_rowOf1 l h1
  | 2, _ => exact aj_rowOf2 l h1
  | 3, _ => exact aj_rowOf3 l h1

set_option maxHeartbeats 4000000 in
set_option maxRecDepth 100000 in
theorem aj_isAnswer (l : Launch) {D : va_G} {bd : Nat → Nat} {d2 d : ClassId} {M S E : Nat → Int32} {G : aj_T} (hM : aj_MRel M G) {n : Nat} (h1 : n < 32768) : aj_MR l yX1_isAnswer cX1_isAnswer 2 .boolean 2 D [(d, .int), (d2, .boolean)] [.ref (bd 0), .int (nI n)] (aj_mP D bd d2 d M S E) (nI (aj_isA G n).toNat) := by
  refine aj_ro RX1 (by decide) rfl (Nat.le_of_ble_eq_true rfl) (fun v h => by rw [h]; exact aj_nZ _) ?_
  intro p e s m args below meth c ls Q F hK hP hl hret
  obtain ⟨hx, hb, hml, hown, hts⟩ := id F
  have hP : va_P D aj_cl (aj_mW bd d2 d M S E) s.heap := hP
  have hl : lv_has ls 2 [(0, .ref (bd 0)), (1, .int (nI n))] := hl
  refine lv_aload_n hx hb dX1_isAnswer_0 rfl (lv_at hl 0 rfl) ?_
  refine va_get (D := D) (ci := 1) (v := .ref (bd 1)) (C := RX1) (T := TX1) (N := 3) hx hb hts in_X1 hown hK hP 0 rfl rfl 0 (by decide) (hts _ q172) (fun _ h9 => h9) rfl dX1_isAnswer_1 ?_
  refine lv_bipush (v := nI 64) hx hb dX1_isAnswer_4 (by decide) ?_
  refine lv_iload_n hx hb dX1_isAnswer_6 rfl (lv_at hl 1 rfl) ?_
  refine lv_bipush (v := nI 6) hx hb dX1_isAnswer_7 (by decide) ?_
  refine lv_ishr hx hb dX1_isAnswer_9 ?_
  refine aj_top (y := nI (n / 64)) (aj_shr6 (by omega)) ?_
  refine lv_bipush (v := nI 63) hx hb dX1_isAnswer_10 (by decide) ?_
  refine lv_iand hx hb dX1_isAnswer_12 ?_
  refine aj_top (y := nI (n / 64 % 64)) (aj_and63 (by omega)) ?_
  refine aj_iadd hx hb dX1_isAnswer_13 ?_
  refine aj_zald (y := nI ((G 1 (n / 512 % 8) (n / 64 % 8)).toNat)) hx hb hK hP 1 1 rfl rfl (by omega) (by decide) (aj_M1 hM n) dX1_isAnswer_14 ?_
  refine aj_ifeqB (tgt := 66) hx hb dX1_isAnswer_15 (by decide) (fun c_15 => ?_) (fun c_15 => ?_)
  ·
    refine lv_iconst (v := nI 0) hx hb dX1_isAnswer_66 (by decide) ?_
    exact hret (nI 0) _ _ dX1_isAnswer_67 ((by simp [aj_isA, *]))
  ·
    refine lv_aload_n hx hb dX1_isAnswer_18 rfl (lv_at hl 0 rfl) ?_
    refine va_get (D := D) (ci := 1) (v := .ref (bd 1)) (C := RX1) (T := TX1) (N := 3) hx hb hts in_X1 hown hK hP 0 rfl rfl 0 (by decide) (hts _ q172) (fun _ h9 => h9) rfl dX1_isAnswer_19 ?_
    refine lv_iload_n hx hb dX1_isAnswer_22 rfl (lv_at hl 1 rfl) ?_
    refine lv_bipush (v := nI 9) hx hb dX1_isAnswer_23 (by decide) ?_
    refine lv_ishr hx hb dX1_isAnswer_25 ?_
    refine aj_top (y := nI (n / 512)) (aj_shr9 (by omega)) ?_
    refine aj_zald (y := nI ((G 0 (n / 4096) (n / 512 % 8)).toNat)) hx hb hK hP 1 1 rfl rfl (by omega) (by decide) (aj_M0 hM h1) dX1_isAnswer_26 ?_
    refine aj_ifeqB (tgt := 66) hx hb dX1_isAnswer_27 (by decide) (fun c_27 => ?_) (fun c_27 => ?_)
    ·
      refine lv_iconst (v := nI 0) hx hb dX1_isAnswer_66 (by decide) ?_
      exact hret (nI 0) _ _ dX1_isAnswer_67 ((by simp [aj_isA, *]))
    ·
      refine lv_aload_n hx hb dX1_isAnswer_30 rfl (lv_at hl 0 rfl) ?_
      refine va_get (D := D) (ci := 1) (v := .ref (bd 1)) (C := RX1) (T := TX1) (N := 3) hx hb hts in_X1 hown hK hP 0 rfl rfl 0 (by decide) (hts _ q172) (fun _ h9 => h9) rfl dX1_isAnswer_31 ?_
      refine lv_sipush (v := nI 128) hx hb dX1_isAnswer_34 (by decide) ?_
      refine lv_iload_n hx hb dX1_isAnswer_37 rfl (lv_at hl 1 rfl) ?_
      refine lv_iconst (v := nI 3) hx hb dX1_isAnswer_38 (by decide) ?_
      refine lv_ishr hx hb dX1_isAnswer_39 ?_
      refine aj_top (y := nI (n / 8)) (aj_shr3 (by omega)) ?_
      refine lv_bipush (v := nI 63) hx hb dX1_isAnswer_40 (by decide) ?_
      refine lv_iand hx hb dX1_isAnswer_42 ?_
      refine aj_top (y := nI (n / 8 % 64)) (aj_and63 (by omega)) ?_
      refine aj_iadd hx hb dX1_isAnswer_43 ?_
      refine aj_zald (y := nI ((G 2 (n / 64 % 8) (n / 8 % 8)).toNat)) hx hb hK hP 1 1 rfl rfl (by omega) (by decide) (aj_M2 hM n) dX1_isAnswer_44 ?_
      refine aj_ifeqB (tgt := 66) hx hb dX1_isAnswer_45 (by decide) (fun c_45 => ?_) (fun c_45 => ?_)
      ·
        refine lv_iconst (v := nI 0) hx hb dX1_isAnswer_66 (by decide) ?_
        exact hret (nI 0) _ _ dX1_isAnswer_67 ((by simp [aj_isA, *]))
      ·
        refine lv_aload_n hx hb dX1_isAnswer_48 rfl (lv_at hl 0 rfl) ?_
        refine va_get (D := D) (ci := 1) (v := .ref (bd 1)) (C := RX1) (T := TX1) (N := 3) hx hb hts in_X1 hown hK hP 0 rfl rfl 0 (by decide) (hts _ q172) (fun _ h9 => h9) rfl dX1_isAnswer_49 ?_
        refine lv_aload_n hx hb dX1_isAnswer_52 rfl (lv_at hl 0 rfl) ?_
        refine lv_iload_n hx hb dX1_isAnswer_53 rfl (lv_at hl 1 rfl) ?_
        refine lv_iconst (v := nI 3) hx hb dX1_isAnswer_54 (by decide) ?_
        refine aj_callR (As := [.int (nI n), .int (nI 3)]) (rest := [.ref (bd 1)]) F (aj_rowOf3 l h1) aj_gX1_X1_rowOf aj_hX1_rowOf (aj_rmR (by decide) (by decide)) rfl rfl hK hP (va_recv (q0 := 0) hK hP (ci := 1) rfl rfl) rfl hl.1 rfl (Nat.le_of_ble_eq_true rfl) ⟨Nat.zero_le _, Nat.zero_le _⟩ dX1_isAnswer_55 ?_
        refine aj_zald (y := nI ((G 3 (n / 512 % 8) (n % 8)).toNat)) hx hb hK hP 1 1 rfl rfl (aj_rO_lt n 3) (by decide) (aj_M3 hM n) dX1_isAnswer_58 ?_
        refine aj_ifeqB (tgt := 66) hx hb dX1_isAnswer_59 (by decide) (fun c_59 => ?_) (fun c_59 => ?_)
        ·
          refine lv_iconst (v := nI 0) hx hb dX1_isAnswer_66 (by decide) ?_
          exact hret (nI 0) _ _ dX1_isAnswer_67 ((by simp [aj_isA, *]))
        ·
          refine lv_iconst (v := nI 1) hx hb dX1_isAnswer_62 (by decide) ?_
          refine lv_goto (tgt := 67) hx hb dX1_isAnswer_63 (by decide) ?_
          exact hret (nI 1) _ _ dX1_isAnswer_67 ((by simp [aj_isA, *]))

set_option maxHeartbeats 4000000 in
set_option maxRecDepth 100000 in
theorem aj_countWith (l : Launch) {D : va_G} {bd : Nat → Nat} {d2 d : ClassId} {M S E : Nat → Int32} {G : aj_T} (hM : aj_MRel M G) {pl : Nat} (h1 : pl < 256) : aj_MR l yX1_countWith cX1_countWith 4 .int 3 D [(d, .int), (d2, .boolean)] [.ref (bd 0), .int (nI pl)] (aj_mP D bd d2 d M S E) (nI (aj_cw G pl)) := by
  refine aj_ro RX1 (by decide) rfl (Nat.le_of_ble_eq_true rfl) (fun v h => aj_nI rfl v) ?_
  intro p e s m args below meth c ls Q F hK hP hl hret
  obtain ⟨hx, hb, hml, hown, hts⟩ := id F
  have hP : va_P D aj_cl (aj_mW bd d2 d M S E) s.heap := hP
  have hl : lv_has ls 4 [(0, .ref (bd 0)), (1, .int (nI pl))] := hl
  refine lv_iconst (v := nI 0) hx hb dX1_countWith_0 (by decide) ?_
  refine lv_istore_n (lv' := [(2, .int (nI 0)), (0, .ref (bd 0)), (1, .int (nI pl))]) hx hb dX1_countWith_1 rfl hl (by decide) rfl (fun ls hl => ?_)
  refine lv_iconst (v := nI 0) hx hb dX1_countWith_2 (by decide) ?_
  refine lv_istore_n (lv' := [(3, .int (nI 0)), (2, .int (nI 0)), (0, .ref (bd 0)), (1, .int (nI pl))]) hx hb dX1_countWith_3 rfl hl (by decide) rfl (fun ls hl => ?_)
  have L_4 : ∀ (n_4 : Nat), ∀ (n : Nat) (y : Int32), y = nI (aj_sm (aj_cw1 G pl) n) → n ≤ 32768 → 32769 ≤ n + n_4 → ∀ (ls : Array Slot), lv_has ls 4 [(0, .ref (bd 0)), (1, .int (nI pl)), (2, .int y), (3, .int (nI n))] → W p l e (aj_rm 3) s m args below meth c s.heap [] 0 0 Q (F0 m 4 ls []) := by
    intro n_4
    induction n_4 with
    | zero =>
      intro n y e_y hn hfu ls hl
      exfalso; omega
    | succ n_4 ih_4 =>
      intro n y e_y hn hfu ls hl
      subst e_y
      refine lv_iload_n hx hb dX1_countWith_4 rfl (lv_at hl 3 rfl) ?_
      refine aj_ldc (n := 32768) hx hb hown (hts _ q211) (by decide) dX1_countWith_5 ?_
      refine aj_ge (tgt := 45) hx hb (by omega) (by decide) dX1_countWith_7 (by decide) (fun c_7 => ?_) (fun c_7 => ?_)
      ·
        refine lv_iload_n hx hb dX1_countWith_45 rfl (lv_at hl 2 rfl) ?_
        exact hret (nI (aj_sm (aj_cw1 G pl) n)) _ _ dX1_countWith_46 ((by rw [show n = 32768 by omega]; rfl))
      ·
        refine lv_aload_n hx hb dX1_countWith_10 rfl (lv_at hl 0 rfl) ?_
        refine lv_iload_n hx hb dX1_countWith_11 rfl (lv_at hl 3 rfl) ?_
        refine aj_callR (As := [.int (nI n)]) (rest := []) F (aj_isAnswer l hM (by omega)) aj_gX1_X1_isAnswer aj_hX1_isAnswer (aj_rmR (by decide) (by decide)) rfl rfl hK hP (va_recv (q0 := 0) hK hP (ci := 1) rfl rfl) rfl hl.1 rfl (Nat.le_of_ble_eq_true rfl) ⟨Nat.zero_le _, Nat.zero_le _⟩ dX1_countWith_12 ?_
        refine aj_ifeqB (tgt := 37) hx hb dX1_countWith_15 (by decide) (fun c_15 => ?_) (fun c_15 => ?_)
        ·
          refine lv_iload_n hx hb dX1_countWith_37 rfl (lv_at hl 2 rfl) ?_
          refine lv_istore_n (lv' := [(2, .int (nI (aj_sm (aj_cw1 G pl) n))), (0, .ref (bd 0)), (1, .int (nI pl)), (3, .int (nI n))]) hx hb dX1_countWith_38 rfl hl (by decide) rfl (fun ls hl => ?_)
          refine lv_iinc (v := nI (n + 1)) (lv' := [(3, .int (nI (n + 1))), (2, .int (nI (aj_sm (aj_cw1 G pl) n))), (0, .ref (bd 0)), (1, .int (nI pl))]) hx hb dX1_countWith_39 hl (k := 3) rfl (nI_add n 1) (by decide) rfl (fun ls hl => ?_)
          refine lv_goto (tgt := 4) hx hb dX1_countWith_42 (by decide) ?_
          exact ih_4 (n + 1) (nI (aj_sm (aj_cw1 G pl) n)) (congrArg nI (by simp [aj_sm, aj_cw1, *] <;> omega)) (by omega) (by omega) _ (lv_sub hl [2, 3, 1, 0] rfl)
        ·
          refine lv_aload_n hx hb dX1_countWith_18 rfl (lv_at hl 0 rfl) ?_
          refine lv_iload_n hx hb dX1_countWith_19 rfl (lv_at hl 3 rfl) ?_
          refine lv_iload_n hx hb dX1_countWith_20 rfl (lv_at hl 1 rfl) ?_
          refine lv_bipush (v := nI 64) hx hb dX1_countWith_21 (by decide) ?_
          refine lv_idiv hx hb dX1_countWith_23 (by decide) ?_
          refine aj_top (y := nI (pl / 64)) (pk_div (by omega) (by decide) (by decide)) ?_
          refine aj_callR (As := [.int (nI n), .int (nI (pl / 64))]) (rest := []) F (aj_rowOf l (by omega) (by omega)) aj_gX1_X1_rowOf aj_hX1_rowOf (aj_rmR (by decide) (by decide)) rfl rfl hK hP (va_recv (q0 := 0) hK hP (ci := 1) rfl rfl) rfl hl.1 rfl (Nat.le_of_ble_eq_true rfl) ⟨Nat.zero_le _, Nat.zero_le _⟩ dX1_countWith_24 ?_
          refine lv_iload_n hx hb dX1_countWith_27 rfl (lv_at hl 1 rfl) ?_
          refine aj_ne (tgt := 37) hx hb (Nat.lt_trans (aj_rO_lt n _) (by decide)) (by omega) dX1_countWith_28 (by decide) (fun c_28 => ?_) (fun c_28 => ?_)
          ·
            refine lv_iload_n hx hb dX1_countWith_37 rfl (lv_at hl 2 rfl) ?_
            refine lv_istore_n (lv' := [(2, .int (nI (aj_sm (aj_cw1 G pl) n))), (0, .ref (bd 0)), (1, .int (nI pl)), (3, .int (nI n))]) hx hb dX1_countWith_38 rfl hl (by decide) rfl (fun ls hl => ?_)
            refine lv_iinc (v := nI (n + 1)) (lv' := [(3, .int (nI (n + 1))), (2, .int (nI (aj_sm (aj_cw1 G pl) n))), (0, .ref (bd 0)), (1, .int (nI pl))]) hx hb dX1_countWith_39 hl (k := 3) rfl (nI_add n 1) (by decide) rfl (fun ls hl => ?_)
            refine lv_goto (tgt := 4) hx hb dX1_countWith_42 (by decide) ?_
            exact ih_4 (n + 1) (nI (aj_sm (aj_cw1 G pl) n)) (congrArg nI (by simp [aj_sm, aj_cw1, *] <;> omega)) (by omega) (by omega) _ (lv_sub hl [2, 3, 1, 0] rfl)
          ·
            refine lv_iload_n hx hb dX1_countWith_31 rfl (lv_at hl 2 rfl) ?_
            refine lv_iconst (v := nI 1) hx hb dX1_countWith_32 (by decide) ?_
            refine aj_iadd hx hb dX1_countWith_33 ?_
            refine lv_goto (tgt := 38) hx hb dX1_countWith_34 (by decide) ?_
            refine lv_istore_n (lv' := [(2, .int (nI ((aj_sm (aj_cw1 G pl) n) + 1))), (0, .ref (bd 0)), (1, .int (nI pl)), (3, .int (nI n))]) hx hb dX1_countWith_38 rfl hl (by decide) rfl (fun ls hl => ?_)
            refine lv_iinc (v := nI (n + 1)) (lv' := [(3, .int (nI (n + 1))), (2, .int (nI ((aj_sm (aj_cw1 G pl) n) + 1))), (0, .ref (bd 0)), (1, .int (nI pl))]) hx hb dX1_countWith_39 hl (k := 3) rfl (nI_add n 1) (by decide) rfl (fun ls hl => ?_)
            refine lv_goto (tgt := 4) hx hb dX1_countWith_42 (by decide) ?_
            exact ih_4 (n + 1) (nI ((aj_sm (aj_cw1 G pl) n) + 1)) (congrArg nI (by simp [aj_sm, aj_cw1, *] <;> omega)) (by omega) (by omega) _ (lv_sub hl [2, 3, 1, 0] rfl)
  exact L_4 32769 0 (nI 0) rfl (by omega) (by omega) _ (lv_sub hl [2, 3, 1, 0] rfl)

set_option maxHeartbeats 4000000 in
set_option maxRecDepth 100000 in
theorem aj_countValue (l : Launch) {D : va_G} {bd : Nat → Nat} {d2 d : ClassId} {M S E : Nat → Int32} {G : aj_T} (hM : aj_MRel M G) {k v : Nat} (h1 : k < 5) (h2 : v < 8) : aj_MR l yX1_countValue cX1_countValue 5 .int 3 D [(d, .int), (d2, .boolean)] [.ref (bd 0), .int (nI k), .int (nI v)] (aj_mP D bd d2 d M S E) (nI (aj_cv G k v)) := by
  refine aj_ro RX1 (by decide) rfl (Nat.le_of_ble_eq_true rfl) (fun v h => aj_nI rfl v) ?_
  intro p e s m args below meth c ls Q F hK hP hl hret
  obtain ⟨hx, hb, hml, hown, hts⟩ := id F
  have hP : va_P D aj_cl (aj_mW bd d2 d M S E) s.heap := hP
  have hl : lv_has ls 5 [(0, .ref (bd 0)), (1, .int (nI k)), (2, .int (nI v))] := hl
  refine lv_iconst (v := nI 0) hx hb dX1_countValue_0 (by decide) ?_
  refine lv_istore_n (lv' := [(3, .int (nI 0)), (0, .ref (bd 0)), (1, .int (nI k)), (2, .int (nI v))]) hx hb dX1_countValue_1 rfl hl (by decide) rfl (fun ls hl => ?_)
  refine lv_iconst (v := nI 0) hx hb dX1_countValue_2 (by decide) ?_
  refine lv_istore (lv' := [(4, .int (nI 0)), (3, .int (nI 0)), (0, .ref (bd 0)), (1, .int (nI k)), (2, .int (nI v))]) hx hb dX1_countValue_3 hl (by decide) rfl (fun ls hl => ?_)
  have L_5 : ∀ (n_5 : Nat), ∀ (n : Nat) (y : Int32), y = nI (aj_sm (aj_cv1 G k v) n) → n ≤ 32768 → 32769 ≤ n + n_5 → ∀ (ls : Array Slot), lv_has ls 5 [(0, .ref (bd 0)), (1, .int (nI k)), (2, .int (nI v)), (3, .int y), (4, .int (nI n))] → W p l e (aj_rm 3) s m args below meth c s.heap [] 0 0 Q (F0 m 5 ls []) := by
    intro n_5
    induction n_5 with
    | zero =>
      intro n y e_y hn hfu ls hl
      exfalso; omega
    | succ n_5 ih_5 =>
      intro n y e_y hn hfu ls hl
      subst e_y
      refine lv_iload hx hb dX1_countValue_5 (lv_at hl 4 rfl) ?_
      refine aj_ldc (n := 32768) hx hb hown (hts _ q211) (by decide) dX1_countValue_7 ?_
      refine aj_ge (tgt := 46) hx hb (by omega) (by decide) dX1_countValue_9 (by decide) (fun c_9 => ?_) (fun c_9 => ?_)
      ·
        refine lv_iload_n hx hb dX1_countValue_46 rfl (lv_at hl 3 rfl) ?_
        exact hret (nI (aj_sm (aj_cv1 G k v) n)) _ _ dX1_countValue_47 ((by rw [show n = 32768 by omega]; rfl))
      ·
        refine lv_aload_n hx hb dX1_countValue_12 rfl (lv_at hl 0 rfl) ?_
        refine lv_iload hx hb dX1_countValue_13 (lv_at hl 4 rfl) ?_
        refine lv_iload_n hx hb dX1_countValue_15 rfl (lv_at hl 1 rfl) ?_
        refine aj_callR (As := [.int (nI n), .int (nI k)]) (rest := []) F (aj_valueIn l (by omega) h1) aj_gX1_X1_valueIn aj_hX1_valueIn (aj_rmR (by decide) (by decide)) rfl rfl hK hP (va_recv (q0 := 0) hK hP (ci := 1) rfl rfl) rfl hl.1 rfl (Nat.le_of_ble_eq_true rfl) ⟨Nat.zero_le _, Nat.zero_le _⟩ dX1_countValue_16 ?_
        refine lv_iload_n hx hb dX1_countValue_19 rfl (lv_at hl 2 rfl) ?_
        refine aj_ne (tgt := 38) hx hb (Nat.lt_trans (aj_vI_lt n k) (by decide)) (by omega) dX1_countValue_20 (by decide) (fun c_20 => ?_) (fun c_20 => ?_)
        ·
          refine lv_iload_n hx hb dX1_countValue_38 rfl (lv_at hl 3 rfl) ?_
          refine lv_istore_n (lv' := [(3, .int (nI (aj_sm (aj_cv1 G k v) n))), (0, .ref (bd 0)), (1, .int (nI k)), (2, .int (nI v)), (4, .int (nI n))]) hx hb dX1_countValue_39 rfl hl (by decide) rfl (fun ls hl => ?_)
          refine lv_iinc (v := nI (n + 1)) (lv' := [(4, .int (nI (n + 1))), (3, .int (nI (aj_sm (aj_cv1 G k v) n))), (0, .ref (bd 0)), (1, .int (nI k)), (2, .int (nI v))]) hx hb dX1_countValue_40 hl (k := 4) rfl (nI_add n 1) (by decide) rfl (fun ls hl => ?_)
          refine lv_goto (tgt := 5) hx hb dX1_countValue_43 (by decide) ?_
          exact ih_5 (n + 1) (nI (aj_sm (aj_cv1 G k v) n)) (congrArg nI (by simp [aj_sm, aj_cv1, *] <;> omega)) (by omega) (by omega) _ (lv_sub hl [2, 3, 4, 1, 0] rfl)
        ·
          refine lv_aload_n hx hb dX1_countValue_23 rfl (lv_at hl 0 rfl) ?_
          refine lv_iload hx hb dX1_countValue_24 (lv_at hl 4 rfl) ?_
          refine aj_callR (As := [.int (nI n)]) (rest := []) F (aj_isAnswer l hM (by omega)) aj_gX1_X1_isAnswer aj_hX1_isAnswer (aj_rmR (by decide) (by decide)) rfl rfl hK hP (va_recv (q0 := 0) hK hP (ci := 1) rfl rfl) rfl hl.1 rfl (Nat.le_of_ble_eq_true rfl) ⟨Nat.zero_le _, Nat.zero_le _⟩ dX1_countValue_26 ?_
          refine aj_ifeqB (tgt := 38) hx hb dX1_countValue_29 (by decide) (fun c_29 => ?_) (fun c_29 => ?_)
          ·
            refine lv_iload_n hx hb dX1_countValue_38 rfl (lv_at hl 3 rfl) ?_
            refine lv_istore_n (lv' := [(3, .int (nI (aj_sm (aj_cv1 G k v) n))), (0, .ref (bd 0)), (1, .int (nI k)), (2, .int (nI v)), (4, .int (nI n))]) hx hb dX1_countValue_39 rfl hl (by decide) rfl (fun ls hl => ?_)
            refine lv_iinc (v := nI (n + 1)) (lv' := [(4, .int (nI (n + 1))), (3, .int (nI (aj_sm (aj_cv1 G k v) n))), (0, .ref (bd 0)), (1, .int (nI k)), (2, .int (nI v))]) hx hb dX1_countValue_40 hl (k := 4) rfl (nI_add n 1) (by decide) rfl (fun ls hl => ?_)
            refine lv_goto (tgt := 5) hx hb dX1_countValue_43 (by decide) ?_
            exact ih_5 (n + 1) (nI (aj_sm (aj_cv1 G k v) n)) (congrArg nI (by simp [aj_sm, aj_cv1, *] <;> omega)) (by omega) (by omega) _ (lv_sub hl [2, 3, 4, 1, 0] rfl)
          ·
            refine lv_iload_n hx hb dX1_countValue_32 rfl (lv_at hl 3 rfl) ?_
            refine lv_iconst (v := nI 1) hx hb dX1_countValue_33 (by decide) ?_
            refine aj_iadd hx hb dX1_countValue_34 ?_
            refine lv_goto (tgt := 39) hx hb dX1_countValue_35 (by decide) ?_
            refine lv_istore_n (lv' := [(3, .int (nI ((aj_sm (aj_cv1 G k v) n) + 1))), (0, .ref (bd 0)), (1, .int (nI k)), (2, .int (nI v)), (4, .int (nI n))]) hx hb dX1_countValue_39 rfl hl (by decide) rfl (fun ls hl => ?_)
            refine lv_iinc (v := nI (n + 1)) (lv' := [(4, .int (nI (n + 1))), (3, .int (nI ((aj_sm (aj_cv1 G k v) n) + 1))), (0, .ref (bd 0)), (1, .int (nI k)), (2, .int (nI v))]) hx hb dX1_countValue_40 hl (k := 4) rfl (nI_add n 1) (by decide) rfl (fun ls hl => ?_)
            refine lv_goto (tgt := 5) hx hb dX1_countValue_43 (by decide) ?_
            exact ih_5 (n + 1) (nI ((aj_sm (aj_cv1 G k v) n) + 1)) (congrArg nI (by simp [aj_sm, aj_cv1, *] <;> omega)) (by omega) (by omega) _ (lv_sub hl [2, 3, 4, 1, 0] rfl)
  exact L_5 32769 0 (nI 0) rfl (by omega) (by omega) _ (lv_sub hl [2, 3, 4, 1, 0] rfl)

set_option maxHeartbeats 4000000 in
set_option maxRecDepth 100000 in
theorem aj_M_count (l : Launch) {D : va_G} {bd : Nat → Nat} {d2 d : ClassId} {G : aj_T} {S : Nat → Int32}  : aj_MR l yX1_count cX1_count 3 .int 3 D [(d, .int), (d2, .boolean)] [.ref (bd 0)] (aj_MM D bd d2 d G S) (nI (aj_sm (aj_a1 G) 32768)) := by
  refine aj_ro RX1 (by decide) rfl (Nat.le_of_ble_eq_true rfl) (fun v h => aj_nI rfl v) ?_
  intro p e s m args below meth c ls Q F hK hP hl hret
  obtain ⟨hx, hb, hml, hown, hts⟩ := id F
  have hl : lv_has ls 3 [(0, .ref (bd 0))] := hl
  obtain ⟨M, E, hM, hP⟩ := hP
  refine lv_iconst (v := nI 0) hx hb dX1_count_0 (by decide) ?_
  refine lv_istore_n (lv' := [(1, .int (nI 0)), (0, .ref (bd 0))]) hx hb dX1_count_1 rfl hl (by decide) rfl (fun ls hl => ?_)
  refine lv_iconst (v := nI 0) hx hb dX1_count_2 (by decide) ?_
  refine lv_istore_n (lv' := [(2, .int (nI 0)), (1, .int (nI 0)), (0, .ref (bd 0))]) hx hb dX1_count_3 rfl hl (by decide) rfl (fun ls hl => ?_)
  have L_4 : ∀ (n_4 : Nat), ∀ (n : Nat) (y : Int32), y = nI (aj_sm (aj_a1 G) n) → n ≤ 32768 → 32769 ≤ n + n_4 → ∀ (ls : Array Slot), lv_has ls 3 [(0, .ref (bd 0)), (1, .int y), (2, .int (nI n))] → W p l e (aj_rm 3) s m args below meth c s.heap [] 0 0 Q (F0 m 4 ls []) := by
    intro n_4
    induction n_4 with
    | zero =>
      intro n y e_y hn hfu ls hl
      exfalso; omega
    | succ n_4 ih_4 =>
      intro n y e_y hn hfu ls hl
      subst e_y
      refine lv_iload_n hx hb dX1_count_4 rfl (lv_at hl 2 rfl) ?_
      refine aj_ldc (n := 32768) hx hb hown (hts _ q211) (by decide) dX1_count_5 ?_
      refine aj_ge (tgt := 32) hx hb (by omega) (by decide) dX1_count_7 (by decide) (fun c_7 => ?_) (fun c_7 => ?_)
      ·
        refine lv_iload_n hx hb dX1_count_32 rfl (lv_at hl 1 rfl) ?_
        exact hret (nI (aj_sm (aj_a1 G) n)) _ _ dX1_count_33 ((by rw [show n = 32768 by omega]))
      ·
        refine lv_aload_n hx hb dX1_count_10 rfl (lv_at hl 0 rfl) ?_
        refine lv_iload_n hx hb dX1_count_11 rfl (lv_at hl 2 rfl) ?_
        refine aj_callR (As := [.int (nI n)]) (rest := []) F (aj_isAnswer l hM (by omega)) aj_gX1_X1_isAnswer aj_hX1_isAnswer (aj_rmR (by decide) (by decide)) rfl rfl hK hP (va_recv (q0 := 0) hK hP (ci := 1) rfl rfl) rfl hl.1 rfl (Nat.le_of_ble_eq_true rfl) ⟨Nat.zero_le _, Nat.zero_le _⟩ dX1_count_12 ?_
        refine aj_ifeqB (tgt := 24) hx hb dX1_count_15 (by decide) (fun c_15 => ?_) (fun c_15 => ?_)
        ·
          refine lv_iload_n hx hb dX1_count_24 rfl (lv_at hl 1 rfl) ?_
          refine lv_istore_n (lv' := [(1, .int (nI (aj_sm (aj_a1 G) n))), (0, .ref (bd 0)), (2, .int (nI n))]) hx hb dX1_count_25 rfl hl (by decide) rfl (fun ls hl => ?_)
          refine lv_iinc (v := nI (n + 1)) (lv' := [(2, .int (nI (n + 1))), (1, .int (nI (aj_sm (aj_a1 G) n))), (0, .ref (bd 0))]) hx hb dX1_count_26 hl (k := 2) rfl (nI_add n 1) (by decide) rfl (fun ls hl => ?_)
          refine lv_goto (tgt := 4) hx hb dX1_count_29 (by decide) ?_
          exact ih_4 (n + 1) (nI (aj_sm (aj_a1 G) n)) (congrArg nI (by simp [aj_sm, aj_a1, aj_sm1, *] <;> omega)) (by omega) (by omega) _ (lv_sub hl [2, 1, 0] rfl)
        ·
          refine lv_iload_n hx hb dX1_count_18 rfl (lv_at hl 1 rfl) ?_
          refine lv_iconst (v := nI 1) hx hb dX1_count_19 (by decide) ?_
          refine aj_iadd hx hb dX1_count_20 ?_
          refine lv_goto (tgt := 25) hx hb dX1_count_21 (by decide) ?_
          refine lv_istore_n (lv' := [(1, .int (nI ((aj_sm (aj_a1 G) n) + 1))), (0, .ref (bd 0)), (2, .int (nI n))]) hx hb dX1_count_25 rfl hl (by decide) rfl (fun ls hl => ?_)
          refine lv_iinc (v := nI (n + 1)) (lv' := [(2, .int (nI (n + 1))), (1, .int (nI ((aj_sm (aj_a1 G) n) + 1))), (0, .ref (bd 0))]) hx hb dX1_count_26 hl (k := 2) rfl (nI_add n 1) (by decide) rfl (fun ls hl => ?_)
          refine lv_goto (tgt := 4) hx hb dX1_count_29 (by decide) ?_
          exact ih_4 (n + 1) (nI ((aj_sm (aj_a1 G) n) + 1)) (congrArg nI (by simp [aj_sm, aj_a1, aj_sm1, *] <;> omega)) (by omega) (by omega) _ (lv_sub hl [2, 1, 0] rfl)
  exact L_4 32769 0 (nI 0) rfl (by omega) (by omega) _ (lv_sub hl [2, 1, 0] rfl)

set_option maxHeartbeats 4000000 in
set_option maxRecDepth 100000 in
theorem aj_M_sum (l : Launch) {D : va_G} {bd : Nat → Nat} {d2 d : ClassId} {G : aj_T} {S : Nat → Int32}  : aj_MR l yX1_sum cX1_sum 3 .int 3 D [(d, .int), (d2, .boolean)] [.ref (bd 0)] (aj_MM D bd d2 d G S) (nI (aj_smV G)) := by
  refine aj_ro RX1 (by decide) rfl (Nat.le_of_ble_eq_true rfl) (fun v h => aj_nI rfl v) ?_
  intro p e s m args below meth c ls Q F hK hP hl hret
  obtain ⟨hx, hb, hml, hown, hts⟩ := id F
  have hl : lv_has ls 3 [(0, .ref (bd 0))] := hl
  obtain ⟨M, E, hM, hP⟩ := hP
  refine lv_iconst (v := nI 0) hx hb dX1_sum_0 (by decide) ?_
  refine lv_istore_n (lv' := [(1, .int (nI 0)), (0, .ref (bd 0))]) hx hb dX1_sum_1 rfl hl (by decide) rfl (fun ls hl => ?_)
  refine lv_iconst (v := nI 0) hx hb dX1_sum_2 (by decide) ?_
  refine lv_istore_n (lv' := [(2, .int (nI 0)), (1, .int (nI 0)), (0, .ref (bd 0))]) hx hb dX1_sum_3 rfl hl (by decide) rfl (fun ls hl => ?_)
  have L_4 : ∀ (n_4 : Nat), ∀ (n : Nat) (y : Int32), y = nI (aj_sm (aj_sm1 G) n) → n ≤ 32768 → 32769 ≤ n + n_4 → ∀ (ls : Array Slot), lv_has ls 3 [(0, .ref (bd 0)), (1, .int y), (2, .int (nI n))] → W p l e (aj_rm 3) s m args below meth c s.heap [] 0 0 Q (F0 m 4 ls []) := by
    intro n_4
    induction n_4 with
    | zero =>
      intro n y e_y hn hfu ls hl
      exfalso; omega
    | succ n_4 ih_4 =>
      intro n y e_y hn hfu ls hl
      subst e_y
      refine lv_iload_n hx hb dX1_sum_4 rfl (lv_at hl 2 rfl) ?_
      refine aj_ldc (n := 32768) hx hb hown (hts _ q211) (by decide) dX1_sum_5 ?_
      refine aj_ge (tgt := 44) hx hb (by omega) (by decide) dX1_sum_7 (by decide) (fun c_7 => ?_) (fun c_7 => ?_)
      ·
        refine lv_iload_n hx hb dX1_sum_44 rfl (lv_at hl 1 rfl) ?_
        exact hret (nI (aj_sm (aj_sm1 G) n)) _ _ dX1_sum_45 ((by rw [show n = 32768 by omega]; rfl))
      ·
        refine lv_aload_n hx hb dX1_sum_10 rfl (lv_at hl 0 rfl) ?_
        refine lv_iload_n hx hb dX1_sum_11 rfl (lv_at hl 2 rfl) ?_
        refine aj_callR (As := [.int (nI n)]) (rest := []) F (aj_isAnswer l hM (by omega)) aj_gX1_X1_isAnswer aj_hX1_isAnswer (aj_rmR (by decide) (by decide)) rfl rfl hK hP (va_recv (q0 := 0) hK hP (ci := 1) rfl rfl) rfl hl.1 rfl (Nat.le_of_ble_eq_true rfl) ⟨Nat.zero_le _, Nat.zero_le _⟩ dX1_sum_12 ?_
        refine aj_ifeqB (tgt := 36) hx hb dX1_sum_15 (by decide) (fun c_15 => ?_) (fun c_15 => ?_)
        ·
          refine lv_iload_n hx hb dX1_sum_36 rfl (lv_at hl 1 rfl) ?_
          refine lv_istore_n (lv' := [(1, .int (nI (aj_sm (aj_sm1 G) n))), (0, .ref (bd 0)), (2, .int (nI n))]) hx hb dX1_sum_37 rfl hl (by decide) rfl (fun ls hl => ?_)
          refine lv_iinc (v := nI (n + 1)) (lv' := [(2, .int (nI (n + 1))), (1, .int (nI (aj_sm (aj_sm1 G) n))), (0, .ref (bd 0))]) hx hb dX1_sum_38 hl (k := 2) rfl (nI_add n 1) (by decide) rfl (fun ls hl => ?_)
          refine lv_goto (tgt := 4) hx hb dX1_sum_41 (by decide) ?_
          exact ih_4 (n + 1) (nI (aj_sm (aj_sm1 G) n)) (congrArg nI (by simp [aj_sm, aj_a1, aj_sm1, *] <;> omega)) (by omega) (by omega) _ (lv_sub hl [2, 1, 0] rfl)
        ·
          refine lv_iload_n hx hb dX1_sum_18 rfl (lv_at hl 1 rfl) ?_
          refine lv_aload_n hx hb dX1_sum_19 rfl (lv_at hl 0 rfl) ?_
          refine lv_iload_n hx hb dX1_sum_20 rfl (lv_at hl 2 rfl) ?_
          refine lv_iconst (v := nI 3) hx hb dX1_sum_21 (by decide) ?_
          refine aj_callR (As := [.int (nI n), .int (nI 3)]) (rest := [.int (nI (aj_sm (aj_sm1 G) n))]) F (aj_valueIn l (by omega) (by decide)) aj_gX1_X1_valueIn aj_hX1_valueIn (aj_rmR (by decide) (by decide)) rfl rfl hK hP (va_recv (q0 := 0) hK hP (ci := 1) rfl rfl) rfl hl.1 rfl (Nat.le_of_ble_eq_true rfl) ⟨Nat.zero_le _, Nat.zero_le _⟩ dX1_sum_22 ?_
          refine aj_iadd hx hb dX1_sum_25 ?_
          refine lv_aload_n hx hb dX1_sum_26 rfl (lv_at hl 0 rfl) ?_
          refine lv_iload_n hx hb dX1_sum_27 rfl (lv_at hl 2 rfl) ?_
          refine lv_iconst (v := nI 4) hx hb dX1_sum_28 (by decide) ?_
          refine aj_callR (As := [.int (nI n), .int (nI 4)]) (rest := [.int (nI ((aj_sm (aj_sm1 G) n) + (aj_vI n 3)))]) F (aj_valueIn l (by omega) (by decide)) aj_gX1_X1_valueIn aj_hX1_valueIn (aj_rmR (by decide) (by decide)) rfl rfl hK hP (va_recv (q0 := 0) hK hP (ci := 1) rfl rfl) rfl hl.1 rfl (Nat.le_of_ble_eq_true rfl) ⟨Nat.zero_le _, Nat.zero_le _⟩ dX1_sum_29 ?_
          refine aj_iadd hx hb dX1_sum_32 ?_
          refine lv_goto (tgt := 37) hx hb dX1_sum_33 (by decide) ?_
          refine lv_istore_n (lv' := [(1, .int (nI (((aj_sm (aj_sm1 G) n) + (aj_vI n 3)) + (aj_vI n 4)))), (0, .ref (bd 0)), (2, .int (nI n))]) hx hb dX1_sum_37 rfl hl (by decide) rfl (fun ls hl => ?_)
          refine lv_iinc (v := nI (n + 1)) (lv' := [(2, .int (nI (n + 1))), (1, .int (nI (((aj_sm (aj_sm1 G) n) + (aj_vI n 3)) + (aj_vI n 4)))), (0, .ref (bd 0))]) hx hb dX1_sum_38 hl (k := 2) rfl (nI_add n 1) (by decide) rfl (fun ls hl => ?_)
          refine lv_goto (tgt := 4) hx hb dX1_sum_41 (by decide) ?_
          exact ih_4 (n + 1) (nI (((aj_sm (aj_sm1 G) n) + (aj_vI n 3)) + (aj_vI n 4))) (congrArg nI (by simp [aj_sm, aj_a1, aj_sm1, *] <;> omega)) (by omega) (by omega) _ (lv_sub hl [2, 1, 0] rfl)
  exact L_4 32769 0 (nI 0) rfl (by omega) (by omega) _ (lv_sub hl [2, 1, 0] rfl)

set_option maxHeartbeats 4000000 in
set_option maxRecDepth 100000 in
theorem aj_M_rows_ok (l : Launch) {D : va_G} {bd : Nat → Nat} {d2 d : ClassId} {G : aj_T} {S : Nat → Int32} {i : Nat} (h1 : i < 4) : aj_MR l yX1_rows cX1_rows 2 .int 0 D [(d, .int), (d2, .boolean)] [.ref (bd 0), .int (nI i)] (aj_MM D bd d2 d G S) (S i) := by
  refine aj_ro RX1 (by decide) rfl (Nat.le_of_ble_eq_true rfl) (fun v h => aj_nI rfl v) ?_
  intro p e s m args below meth c ls Q F hK hP hl hret
  obtain ⟨hx, hb, hml, hown, hts⟩ := id F
  have hl : lv_has ls 2 [(0, .ref (bd 0)), (1, .int (nI i))] := hl
  obtain ⟨M, E, hM, hP⟩ := hP
  refine lv_iload_n hx hb dX1_rows_0 rfl (lv_at hl 1 rfl) ?_
  refine aj_iflt (tgt := 9) hx hb (by omega) dX1_rows_1 (by decide) ?_
  refine lv_iload_n hx hb dX1_rows_4 rfl (lv_at hl 1 rfl) ?_
  refine lv_iconst (v := nI 3) hx hb dX1_rows_5 (by decide) ?_
  refine aj_le (tgt := 13) hx hb (by omega) (by decide) dX1_rows_6 (by decide) (fun c_6 => ?_) (fun c_6 => ?_)
  ·
    refine lv_aload_n hx hb dX1_rows_13 rfl (lv_at hl 0 rfl) ?_
    refine va_get (D := D) (ci := 1) (v := .ref (bd 2)) (C := RX1) (T := TX1) (N := 3) hx hb hts in_X1 hown hK hP 0 rfl rfl 1 (by decide) (hts _ q173) (fun _ h9 => h9) rfl dX1_rows_14 ?_
    refine lv_iload_n hx hb dX1_rows_17 rfl (lv_at hl 1 rfl) ?_
    refine aj_iald (y := S i) hx hb hK hP 2 0 rfl rfl (by omega) (by decide) rfl dX1_rows_18 ?_
    exact hret (S i) _ _ dX1_rows_19 (rfl)
  ·
    exfalso; omega

set_option maxHeartbeats 4000000 in
set_option maxRecDepth 100000 in
theorem aj_M_rows_bad (l : Launch) {D : va_G} {bd : Nat → Nat} {d2 d : ClassId} {G : aj_T} {S : Nat → Int32} {x : Int32} (h1 : aj_out 4 x = true) : aj_MR l yX1_rows cX1_rows 2 .int 0 D [(d, .int), (d2, .boolean)] [.ref (bd 0), .int x] (aj_MM D bd d2 d G S) ((-1)) := by
  refine aj_ro RX1 (by decide) rfl (Nat.le_of_ble_eq_true rfl) (fun v h => aj_nI rfl v) ?_
  intro p e s m args below meth c ls Q F hK hP hl hret
  obtain ⟨hx, hb, hml, hown, hts⟩ := id F
  have hl : lv_has ls 2 [(0, .ref (bd 0)), (1, .int x)] := hl
  obtain ⟨M, E, hM, hP⟩ := hP
  refine lv_iload_n hx hb dX1_rows_0 rfl (lv_at hl 1 rfl) ?_
  refine lv_if_lt (tgt := 9) hx hb dX1_rows_1 (by decide) (fun c_1 => ?_) (fun c_1 => ?_)
  ·
    refine lv_iconst (v := (-1)) hx hb dX1_rows_9 (by decide) ?_
    refine lv_goto (tgt := 19) hx hb dX1_rows_10 (by decide) ?_
    exact hret ((-1)) _ _ dX1_rows_19 (rfl)
  ·
    refine lv_iload_n hx hb dX1_rows_4 rfl (lv_at hl 1 rfl) ?_
    refine lv_iconst (v := nI 3) hx hb dX1_rows_5 (by decide) ?_
    refine lv_icmp_le (tgt := 13) hx hb dX1_rows_6 (by decide) (fun c_6 => ?_) (fun c_6 => ?_)
    ·
      exact absurd c_6 (aj_out_no3 h1 c_1)
    ·
      refine lv_iconst (v := (-1)) hx hb dX1_rows_9 (by decide) ?_
      refine lv_goto (tgt := 19) hx hb dX1_rows_10 (by decide) ?_
      exact hret ((-1)) _ _ dX1_rows_19 (rfl)

set_option maxHeartbeats 4000000 in
set_option maxRecDepth 100000 in
theorem aj_M_has_ok (l : Launch) {D : va_G} {bd : Nat → Nat} {d2 d : ClassId} {G : aj_T} {S : Nat → Int32} {k : Nat} (h1 : k < 32768) : aj_MR l yX1_has cX1_has 3 .boolean 3 D [(d, .int), (d2, .boolean)] [.ref (bd 0), .int (nI k)] (aj_MM D bd d2 d G S) (nI (aj_isA G (aj_num k)).toNat) := by
  refine aj_ro RX1 (by decide) rfl (Nat.le_of_ble_eq_true rfl) (fun v h => by rw [h]; exact aj_nZ _) ?_
  intro p e s m args below meth c ls Q F hK hP hl hret
  obtain ⟨hx, hb, hml, hown, hts⟩ := id F
  have hl : lv_has ls 3 [(0, .ref (bd 0)), (1, .int (nI k))] := hl
  obtain ⟨M, E, hM, hP⟩ := hP
  refine lv_aload_n hx hb dX1_has_0 rfl (lv_at hl 0 rfl) ?_
  refine lv_iload_n hx hb dX1_has_1 rfl (lv_at hl 1 rfl) ?_
  refine aj_callR (As := [.int (nI k)]) (rest := []) F (aj_isCode l) aj_gX1_X1_isCode aj_hX1_isCode (aj_rmR (by decide) (by decide)) rfl rfl hK hP (va_recv (q0 := 0) hK hP (ci := 1) rfl rfl) rfl hl.1 rfl (Nat.le_of_ble_eq_true rfl) ⟨Nat.zero_le _, Nat.zero_le _⟩ dX1_has_2 ?_
  refine aj_ifneB (tgt := 10) hx hb dX1_has_5 (by decide) (fun c_5 => ?_) (fun c_5 => ?_)
  ·
    refine lv_aload_n hx hb dX1_has_10 rfl (lv_at hl 0 rfl) ?_
    refine lv_iload_n hx hb dX1_has_11 rfl (lv_at hl 1 rfl) ?_
    refine aj_callR (As := [.int (nI k)]) (rest := []) F (aj_number l h1) aj_gX1_X1_number aj_hX1_number (aj_rmR (by decide) (by decide)) rfl rfl hK hP (va_recv (q0 := 0) hK hP (ci := 1) rfl rfl) rfl hl.1 rfl (Nat.le_of_ble_eq_true rfl) ⟨Nat.zero_le _, Nat.zero_le _⟩ dX1_has_12 ?_
    refine lv_istore_n (lv' := [(2, .int (nI (aj_num k))), (0, .ref (bd 0)), (1, .int (nI k))]) hx hb dX1_has_15 rfl hl (by decide) rfl (fun ls hl => ?_)
    refine lv_aload_n hx hb dX1_has_16 rfl (lv_at hl 1 rfl) ?_
    refine lv_iload_n hx hb dX1_has_17 rfl (lv_at hl 0 rfl) ?_
    refine aj_callR (As := [.int (nI (aj_num k))]) (rest := []) F (aj_isAnswer l hM (aj_num_lt k)) aj_gX1_X1_isAnswer aj_hX1_isAnswer (aj_rmR (by decide) (by decide)) rfl rfl hK hP (va_recv (q0 := 0) hK hP (ci := 1) rfl rfl) rfl hl.1 rfl (Nat.le_of_ble_eq_true rfl) ⟨Nat.zero_le _, Nat.zero_le _⟩ dX1_has_18 ?_
    exact hret (nI ((aj_isA G (aj_num k)).toNat)) _ _ dX1_has_21 (rfl)
  ·
    rw [aj_isC_ok h1] at c_5; cases c_5

set_option maxHeartbeats 4000000 in
set_option maxRecDepth 100000 in
theorem aj_M_has_bad (l : Launch) {D : va_G} {bd : Nat → Nat} {d2 d : ClassId} {G : aj_T} {S : Nat → Int32} {x : Int32} (h1 : aj_badC x = true) : aj_MR l yX1_has cX1_has 3 .boolean 3 D [(d, .int), (d2, .boolean)] [.ref (bd 0), .int x] (aj_MM D bd d2 d G S) (nI 0) := by
  refine aj_ro RX1 (by decide) rfl (Nat.le_of_ble_eq_true rfl) (fun v h => by rw [h]; rfl) ?_
  intro p e s m args below meth c ls Q F hK hP hl hret
  obtain ⟨hx, hb, hml, hown, hts⟩ := id F
  have hl : lv_has ls 3 [(0, .ref (bd 0)), (1, .int x)] := hl
  obtain ⟨M, E, hM, hP⟩ := hP
  refine lv_aload_n hx hb dX1_has_0 rfl (lv_at hl 0 rfl) ?_
  refine lv_iload_n hx hb dX1_has_1 rfl (lv_at hl 1 rfl) ?_
  refine aj_callR (As := [.int x]) (rest := []) F (aj_isCode l) aj_gX1_X1_isCode aj_hX1_isCode (aj_rmR (by decide) (by decide)) rfl rfl hK hP (va_recv (q0 := 0) hK hP (ci := 1) rfl rfl) rfl hl.1 rfl (Nat.le_of_ble_eq_true rfl) ⟨Nat.zero_le _, Nat.zero_le _⟩ dX1_has_2 ?_
  refine aj_ifneB (tgt := 10) hx hb dX1_has_5 (by decide) (fun c_5 => ?_) (fun c_5 => ?_)
  ·
    rw [aj_isC_bad h1] at c_5; cases c_5
  ·
    refine lv_iconst (v := nI 0) hx hb dX1_has_8 (by decide) ?_
    exact hret (nI 0) _ _ dX1_has_9 (rfl)

set_option maxHeartbeats 4000000 in
set_option maxRecDepth 100000 in
theorem aj_M_rank_ok (l : Launch) {D : va_G} {bd : Nat → Nat} {d2 d : ClassId} {G : aj_T} {S : Nat → Int32} {k : Nat} (h1 : k < 32768) : aj_MR l yX1_rank cX1_rank 5 .int 3 D [(d, .int), (d2, .boolean)] [.ref (bd 0), .int (nI k)] (aj_MM D bd d2 d G S) (nI (aj_sm (aj_a1 G) (aj_num k))) := by
  refine aj_ro RX1 (by decide) rfl (Nat.le_of_ble_eq_true rfl) (fun v h => aj_nI rfl v) ?_
  intro p e s m args below meth c ls Q F hK hP hl hret
  obtain ⟨hx, hb, hml, hown, hts⟩ := id F
  have hl : lv_has ls 5 [(0, .ref (bd 0)), (1, .int (nI k))] := hl
  obtain ⟨M, E, hM, hP⟩ := hP
  refine lv_aload_n hx hb dX1_rank_0 rfl (lv_at hl 0 rfl) ?_
  refine lv_iload_n hx hb dX1_rank_1 rfl (lv_at hl 1 rfl) ?_
  refine aj_callR (As := [.int (nI k)]) (rest := []) F (aj_isCode l) aj_gX1_X1_isCode aj_hX1_isCode (aj_rmR (by decide) (by decide)) rfl rfl hK hP (va_recv (q0 := 0) hK hP (ci := 1) rfl rfl) rfl hl.1 rfl (Nat.le_of_ble_eq_true rfl) ⟨Nat.zero_le _, Nat.zero_le _⟩ dX1_rank_2 ?_
  refine aj_ifneB (tgt := 10) hx hb dX1_rank_5 (by decide) (fun c_5 => ?_) (fun c_5 => ?_)
  ·
    refine lv_aload_n hx hb dX1_rank_10 rfl (lv_at hl 0 rfl) ?_
    refine lv_iload_n hx hb dX1_rank_11 rfl (lv_at hl 1 rfl) ?_
    refine aj_callR (As := [.int (nI k)]) (rest := []) F (aj_number l h1) aj_gX1_X1_number aj_hX1_number (aj_rmR (by decide) (by decide)) rfl rfl hK hP (va_recv (q0 := 0) hK hP (ci := 1) rfl rfl) rfl hl.1 rfl (Nat.le_of_ble_eq_true rfl) ⟨Nat.zero_le _, Nat.zero_le _⟩ dX1_rank_12 ?_
    refine lv_istore_n (lv' := [(2, .int (nI (aj_num k))), (0, .ref (bd 0)), (1, .int (nI k))]) hx hb dX1_rank_15 rfl hl (by decide) rfl (fun ls hl => ?_)
    have hnl := aj_num_lt k
    refine lv_iconst (v := nI 0) hx hb dX1_rank_16 (by decide) ?_
    refine lv_istore_n (lv' := [(3, .int (nI 0)), (2, .int (nI (aj_num k))), (0, .ref (bd 0)), (1, .int (nI k))]) hx hb dX1_rank_17 rfl hl (by decide) rfl (fun ls hl => ?_)
    refine lv_iconst (v := nI 0) hx hb dX1_rank_18 (by decide) ?_
    refine lv_istore (lv' := [(4, .int (nI 0)), (3, .int (nI 0)), (2, .int (nI (aj_num k))), (0, .ref (bd 0)), (1, .int (nI k))]) hx hb dX1_rank_19 hl (by decide) rfl (fun ls hl => ?_)
    have L_21 : ∀ (n_21 : Nat), ∀ (n : Nat) (y : Int32), y = nI (aj_sm (aj_a1 G) n) → n ≤ aj_num k → aj_num k + 1 ≤ n + n_21 → ∀ (ls : Array Slot), lv_has ls 5 [(0, .ref (bd 0)), (2, .int (nI (aj_num k))), (3, .int y), (4, .int (nI n))] → W p l e (aj_rm 3) s m args below meth c s.heap [] 0 0 Q (F0 m 21 ls []) := by
      intro n_21
      induction n_21 with
      | zero =>
        intro n y e_y hn hfu ls hl
        exfalso; omega
      | succ n_21 ih_21 =>
        intro n y e_y hn hfu ls hl
        subst e_y
        refine lv_iload hx hb dX1_rank_21 (lv_at hl 3 rfl) ?_
        refine lv_iload_n hx hb dX1_rank_23 rfl (lv_at hl 1 rfl) ?_
        refine aj_ge (tgt := 50) hx hb (by omega) (by omega) dX1_rank_24 (by decide) (fun c_24 => ?_) (fun c_24 => ?_)
        ·
          refine lv_iload_n hx hb dX1_rank_50 rfl (lv_at hl 2 rfl) ?_
          exact hret (nI (aj_sm (aj_a1 G) n)) _ _ dX1_rank_51 ((by rw [show n = aj_num k by omega]))
        ·
          refine lv_aload_n hx hb dX1_rank_27 rfl (lv_at hl 0 rfl) ?_
          refine lv_iload hx hb dX1_rank_28 (lv_at hl 3 rfl) ?_
          refine aj_callR (As := [.int (nI n)]) (rest := []) F (aj_isAnswer l hM (by omega)) aj_gX1_X1_isAnswer aj_hX1_isAnswer (aj_rmR (by decide) (by decide)) rfl rfl hK hP (va_recv (q0 := 0) hK hP (ci := 1) rfl rfl) rfl hl.1 rfl (Nat.le_of_ble_eq_true rfl) ⟨Nat.zero_le _, Nat.zero_le _⟩ dX1_rank_30 ?_
          refine aj_ifeqB (tgt := 42) hx hb dX1_rank_33 (by decide) (fun c_33 => ?_) (fun c_33 => ?_)
          ·
            refine lv_iload_n hx hb dX1_rank_42 rfl (lv_at hl 2 rfl) ?_
            refine lv_istore_n (lv' := [(3, .int (nI (aj_sm (aj_a1 G) n))), (0, .ref (bd 0)), (2, .int (nI (aj_num k))), (4, .int (nI n))]) hx hb dX1_rank_43 rfl hl (by decide) rfl (fun ls hl => ?_)
            refine lv_iinc (v := nI (n + 1)) (lv' := [(4, .int (nI (n + 1))), (3, .int (nI (aj_sm (aj_a1 G) n))), (0, .ref (bd 0)), (2, .int (nI (aj_num k)))]) hx hb dX1_rank_44 hl (k := 3) rfl (nI_add n 1) (by decide) rfl (fun ls hl => ?_)
            refine lv_goto (tgt := 21) hx hb dX1_rank_47 (by decide) ?_
            exact ih_21 (n + 1) (nI (aj_sm (aj_a1 G) n)) (congrArg nI (by simp [aj_sm, aj_a1, *] <;> omega)) (by omega) (by omega) _ (lv_sub hl [2, 3, 1, 0] rfl)
          ·
            refine lv_iload_n hx hb dX1_rank_36 rfl (lv_at hl 2 rfl) ?_
            refine lv_iconst (v := nI 1) hx hb dX1_rank_37 (by decide) ?_
            refine aj_iadd hx hb dX1_rank_38 ?_
            refine lv_goto (tgt := 43) hx hb dX1_rank_39 (by decide) ?_
            refine lv_istore_n (lv' := [(3, .int (nI ((aj_sm (aj_a1 G) n) + 1))), (0, .ref (bd 0)), (2, .int (nI (aj_num k))), (4, .int (nI n))]) hx hb dX1_rank_43 rfl hl (by decide) rfl (fun ls hl => ?_)
            refine lv_iinc (v := nI (n + 1)) (lv' := [(4, .int (nI (n + 1))), (3, .int (nI ((aj_sm (aj_a1 G) n) + 1))), (0, .ref (bd 0)), (2, .int (nI (aj_num k)))]) hx hb dX1_rank_44 hl (k := 3) rfl (nI_add n 1) (by decide) rfl (fun ls hl => ?_)
            refine lv_goto (tgt := 21) hx hb dX1_rank_47 (by decide) ?_
            exact ih_21 (n + 1) (nI ((aj_sm (aj_a1 G) n) + 1)) (congrArg nI (by simp [aj_sm, aj_a1, *] <;> omega)) (by omega) (by omega) _ (lv_sub hl [2, 3, 1, 0] rfl)
    exact L_21 (aj_num k + 1) 0 (nI 0) rfl (by omega) (by omega) _ (lv_sub hl [3, 2, 1, 0] rfl)
  ·
    rw [aj_isC_ok h1] at c_5; cases c_5

set_option maxHeartbeats 4000000 in
set_option maxRecDepth 100000 in
theorem aj_M_rank_bad (l : Launch) {D : va_G} {bd : Nat → Nat} {d2 d : ClassId} {G : aj_T} {S : Nat → Int32} {x : Int32} (h1 : aj_badC x = true) : aj_MR l yX1_rank cX1_rank 5 .int 3 D [(d, .int), (d2, .boolean)] [.ref (bd 0), .int x] (aj_MM D bd d2 d G S) ((-1)) := by
  refine aj_ro RX1 (by decide) rfl (Nat.le_of_ble_eq_true rfl) (fun v h => aj_nI rfl v) ?_
  intro p e s m args below meth c ls Q F hK hP hl hret
  obtain ⟨hx, hb, hml, hown, hts⟩ := id F
  have hl : lv_has ls 5 [(0, .ref (bd 0)), (1, .int x)] := hl
  obtain ⟨M, E, hM, hP⟩ := hP
  refine lv_aload_n hx hb dX1_rank_0 rfl (lv_at hl 0 rfl) ?_
  refine lv_iload_n hx hb dX1_rank_1 rfl (lv_at hl 1 rfl) ?_
  refine aj_callR (As := [.int x]) (rest := []) F (aj_isCode l) aj_gX1_X1_isCode aj_hX1_isCode (aj_rmR (by decide) (by decide)) rfl rfl hK hP (va_recv (q0 := 0) hK hP (ci := 1) rfl rfl) rfl hl.1 rfl (Nat.le_of_ble_eq_true rfl) ⟨Nat.zero_le _, Nat.zero_le _⟩ dX1_rank_2 ?_
  refine aj_ifneB (tgt := 10) hx hb dX1_rank_5 (by decide) (fun c_5 => ?_) (fun c_5 => ?_)
  ·
    rw [aj_isC_bad h1] at c_5; cases c_5
  ·
    refine lv_iconst (v := (-1)) hx hb dX1_rank_8 (by decide) ?_
    exact hret ((-1)) _ _ dX1_rank_9 (rfl)

set_option maxHeartbeats 4000000 in
set_option maxRecDepth 100000 in
theorem aj_M_answer_hit (l : Launch) {D : va_G} {bd : Nat → Nat} {d2 d : ClassId} {G : aj_T} {S : Nat → Int32} {kap n0 : Nat} (h1 : n0 < 32768) (h2 : aj_isA G n0 = true) (h3 : aj_sm (aj_a1 G) n0 = kap) : aj_MR l yX1_answer cX1_answer 4 .int 3 D [(d, .int), (d2, .boolean)] [.ref (bd 0), .int (nI kap)] (aj_MM D bd d2 d G S) (nI (aj_code n0)) := by
  refine aj_ro RX1 (by decide) rfl (Nat.le_of_ble_eq_true rfl) (fun v h => aj_nI rfl v) ?_
  intro p e s m args below meth c ls Q F hK hP hl hret
  obtain ⟨hx, hb, hml, hown, hts⟩ := id F
  have hl : lv_has ls 4 [(0, .ref (bd 0)), (1, .int (nI kap))] := hl
  obtain ⟨M, E, hM, hP⟩ := hP
  refine lv_iconst (v := nI 0) hx hb dX1_answer_0 (by decide) ?_
  refine lv_istore_n (lv' := [(2, .int (nI 0)), (0, .ref (bd 0)), (1, .int (nI kap))]) hx hb dX1_answer_1 rfl hl (by decide) rfl (fun ls hl => ?_)
  refine lv_iconst (v := nI 0) hx hb dX1_answer_2 (by decide) ?_
  refine lv_istore_n (lv' := [(3, .int (nI 0)), (2, .int (nI 0)), (0, .ref (bd 0)), (1, .int (nI kap))]) hx hb dX1_answer_3 rfl hl (by decide) rfl (fun ls hl => ?_)
  have L_4 : ∀ (n_4 : Nat), ∀ (n : Nat) (y : Int32), y = nI (aj_sm (aj_a1 G) n) → n ≤ n0 → 32769 ≤ n + n_4 → ∀ (ls : Array Slot), lv_has ls 4 [(0, .ref (bd 0)), (1, .int (nI kap)), (2, .int y), (3, .int (nI n))] → W p l e (aj_rm 3) s m args below meth c s.heap [] 0 0 Q (F0 m 4 ls []) := by
    intro n_4
    induction n_4 with
    | zero =>
      intro n y e_y hn hfu ls hl
      exfalso; omega
    | succ n_4 ih_4 =>
      intro n y e_y hn hfu ls hl
      subst e_y
      refine lv_iload_n hx hb dX1_answer_4 rfl (lv_at hl 3 rfl) ?_
      refine aj_ldc (n := 32768) hx hb hown (hts _ q211) (by decide) dX1_answer_5 ?_
      refine aj_ge (tgt := 38) hx hb (by omega) (by decide) dX1_answer_7 (by decide) (fun c_7 => ?_) (fun c_7 => ?_)
      ·
        exfalso; omega
      ·
        refine lv_aload_n hx hb dX1_answer_10 rfl (lv_at hl 0 rfl) ?_
        refine lv_iload_n hx hb dX1_answer_11 rfl (lv_at hl 3 rfl) ?_
        refine aj_callR (As := [.int (nI n)]) (rest := []) F (aj_isAnswer l hM (by omega)) aj_gX1_X1_isAnswer aj_hX1_isAnswer (aj_rmR (by decide) (by decide)) rfl rfl hK hP (va_recv (q0 := 0) hK hP (ci := 1) rfl rfl) rfl hl.1 rfl (Nat.le_of_ble_eq_true rfl) ⟨Nat.zero_le _, Nat.zero_le _⟩ dX1_answer_12 ?_
        refine aj_ifeqB (tgt := 32) hx hb dX1_answer_15 (by decide) (fun c_15 => ?_) (fun c_15 => ?_)
        ·
          refine lv_iinc (v := nI (n + 1)) (lv' := [(3, .int (nI (n + 1))), (0, .ref (bd 0)), (1, .int (nI kap)), (2, .int (nI (aj_sm (aj_a1 G) n)))]) hx hb dX1_answer_32 hl (k := 3) rfl (nI_add n 1) (by decide) rfl (fun ls hl => ?_)
          refine lv_goto (tgt := 4) hx hb dX1_answer_35 (by decide) ?_
          exact ih_4 (n + 1) (nI (aj_sm (aj_a1 G) n)) (congrArg nI (by simp [aj_sm, aj_a1, *] <;> omega)) (by rcases Nat.lt_or_ge n n0 with h9 | h9; omega; exfalso; obtain rfl : n = n0 := (by omega); simp_all) (by omega) _ (lv_sub hl [1, 2, 3, 0] rfl)
        ·
          refine lv_iload_n hx hb dX1_answer_18 rfl (lv_at hl 2 rfl) ?_
          refine lv_iload_n hx hb dX1_answer_19 rfl (lv_at hl 1 rfl) ?_
          refine aj_ne (tgt := 29) hx hb (Nat.lt_of_le_of_lt (aj_sm_le (k := 1) n (fun j _ => aj_b1 _)) (by omega)) (by rw [← h3]; exact Nat.lt_of_le_of_lt (aj_sm_le (k := 1) n0 (fun j _ => aj_b1 _)) (by omega)) dX1_answer_20 (by decide) (fun c_20 => ?_) (fun c_20 => ?_)
          ·
            refine lv_iinc (v := nI (aj_sm (aj_a1 G) n + 1)) (lv' := [(2, .int (nI (aj_sm (aj_a1 G) n + 1))), (0, .ref (bd 0)), (1, .int (nI kap)), (3, .int (nI n))]) hx hb dX1_answer_29 hl (k := 2) rfl (nI_add (aj_sm (aj_a1 G) n) 1) (by decide) rfl (fun ls hl => ?_)
            refine lv_iinc (v := nI (n + 1)) (lv' := [(3, .int (nI (n + 1))), (2, .int (nI (aj_sm (aj_a1 G) n + 1))), (0, .ref (bd 0)), (1, .int (nI kap))]) hx hb dX1_answer_32 hl (k := 3) rfl (nI_add n 1) (by decide) rfl (fun ls hl => ?_)
            refine lv_goto (tgt := 4) hx hb dX1_answer_35 (by decide) ?_
            exact ih_4 (n + 1) (nI (aj_sm (aj_a1 G) n + 1)) (congrArg nI (by simp [aj_sm, aj_a1, *] <;> omega)) (by rcases Nat.lt_or_ge n n0 with h9 | h9; omega; exfalso; obtain rfl : n = n0 := (by omega); simp_all) (by omega) _ (lv_sub hl [2, 3, 1, 0] rfl)
          ·
            refine lv_aload_n hx hb dX1_answer_23 rfl (lv_at hl 0 rfl) ?_
            refine lv_iload_n hx hb dX1_answer_24 rfl (lv_at hl 3 rfl) ?_
            refine aj_callR (As := [.int (nI n)]) (rest := []) F (aj_codeM l (by omega)) aj_gX1_X1_code aj_hX1_code (aj_rmR (by decide) (by decide)) rfl rfl hK hP (va_recv (q0 := 0) hK hP (ci := 1) rfl rfl) rfl hl.1 rfl (Nat.le_of_ble_eq_true rfl) ⟨Nat.zero_le _, Nat.zero_le _⟩ dX1_answer_25 ?_
            exact hret (nI (aj_code n)) _ _ dX1_answer_28 ((by rw [show n = n0 from aj_uniq h2 c_15 (c_20.trans h3.symm)]))
  exact L_4 32769 0 (nI 0) rfl (Nat.zero_le _) (by omega) _ (lv_sub hl [2, 3, 1, 0] rfl)

set_option maxHeartbeats 4000000 in
set_option maxRecDepth 100000 in
theorem aj_M_answer_miss (l : Launch) {D : va_G} {bd : Nat → Nat} {d2 d : ClassId} {G : aj_T} {S : Nat → Int32} {x : Int32} (h1 : ∀ n, n < 32768 → aj_isA G n = true → ¬ nI (aj_sm (aj_a1 G) n) = x) : aj_MR l yX1_answer cX1_answer 4 .int 3 D [(d, .int), (d2, .boolean)] [.ref (bd 0), .int x] (aj_MM D bd d2 d G S) ((-4)) := by
  refine aj_ro RX1 (by decide) rfl (Nat.le_of_ble_eq_true rfl) (fun v h => aj_nI rfl v) ?_
  intro p e s m args below meth c ls Q F hK hP hl hret
  obtain ⟨hx, hb, hml, hown, hts⟩ := id F
  have hl : lv_has ls 4 [(0, .ref (bd 0)), (1, .int x)] := hl
  obtain ⟨M, E, hM, hP⟩ := hP
  refine lv_iconst (v := nI 0) hx hb dX1_answer_0 (by decide) ?_
  refine lv_istore_n (lv' := [(2, .int (nI 0)), (0, .ref (bd 0)), (1, .int x)]) hx hb dX1_answer_1 rfl hl (by decide) rfl (fun ls hl => ?_)
  refine lv_iconst (v := nI 0) hx hb dX1_answer_2 (by decide) ?_
  refine lv_istore_n (lv' := [(3, .int (nI 0)), (2, .int (nI 0)), (0, .ref (bd 0)), (1, .int x)]) hx hb dX1_answer_3 rfl hl (by decide) rfl (fun ls hl => ?_)
  have L_4 : ∀ (n_4 : Nat), ∀ (n : Nat) (y : Int32), y = nI (aj_sm (aj_a1 G) n) → n ≤ 32768 → 32769 ≤ n + n_4 → ∀ (ls : Array Slot), lv_has ls 4 [(0, .ref (bd 0)), (1, .int x), (2, .int y), (3, .int (nI n))] → W p l e (aj_rm 3) s m args below meth c s.heap [] 0 0 Q (F0 m 4 ls []) := by
    intro n_4
    induction n_4 with
    | zero =>
      intro n y e_y hn hfu ls hl
      exfalso; omega
    | succ n_4 ih_4 =>
      intro n y e_y hn hfu ls hl
      subst e_y
      refine lv_iload_n hx hb dX1_answer_4 rfl (lv_at hl 3 rfl) ?_
      refine aj_ldc (n := 32768) hx hb hown (hts _ q211) (by decide) dX1_answer_5 ?_
      refine aj_ge (tgt := 38) hx hb (by omega) (by decide) dX1_answer_7 (by decide) (fun c_7 => ?_) (fun c_7 => ?_)
      ·
        refine lv_bipush (v := (-4)) hx hb dX1_answer_38 (by decide) ?_
        exact hret ((-4)) _ _ dX1_answer_40 (rfl)
      ·
        refine lv_aload_n hx hb dX1_answer_10 rfl (lv_at hl 0 rfl) ?_
        refine lv_iload_n hx hb dX1_answer_11 rfl (lv_at hl 3 rfl) ?_
        refine aj_callR (As := [.int (nI n)]) (rest := []) F (aj_isAnswer l hM (by omega)) aj_gX1_X1_isAnswer aj_hX1_isAnswer (aj_rmR (by decide) (by decide)) rfl rfl hK hP (va_recv (q0 := 0) hK hP (ci := 1) rfl rfl) rfl hl.1 rfl (Nat.le_of_ble_eq_true rfl) ⟨Nat.zero_le _, Nat.zero_le _⟩ dX1_answer_12 ?_
        refine aj_ifeqB (tgt := 32) hx hb dX1_answer_15 (by decide) (fun c_15 => ?_) (fun c_15 => ?_)
        ·
          refine lv_iinc (v := nI (n + 1)) (lv' := [(3, .int (nI (n + 1))), (0, .ref (bd 0)), (1, .int x), (2, .int (nI (aj_sm (aj_a1 G) n)))]) hx hb dX1_answer_32 hl (k := 3) rfl (nI_add n 1) (by decide) rfl (fun ls hl => ?_)
          refine lv_goto (tgt := 4) hx hb dX1_answer_35 (by decide) ?_
          exact ih_4 (n + 1) (nI (aj_sm (aj_a1 G) n)) (congrArg nI (by simp [aj_sm, aj_a1, *] <;> omega)) (by omega) (by omega) _ (lv_sub hl [1, 2, 3, 0] rfl)
        ·
          refine lv_iload_n hx hb dX1_answer_18 rfl (lv_at hl 2 rfl) ?_
          refine lv_iload_n hx hb dX1_answer_19 rfl (lv_at hl 1 rfl) ?_
          refine lv_icmp_ne (tgt := 29) hx hb dX1_answer_20 (by decide) (fun c_20 => ?_) (fun c_20 => ?_)
          ·
            refine lv_iinc (v := nI (aj_sm (aj_a1 G) n + 1)) (lv' := [(2, .int (nI (aj_sm (aj_a1 G) n + 1))), (0, .ref (bd 0)), (1, .int x), (3, .int (nI n))]) hx hb dX1_answer_29 hl (k := 2) rfl (nI_add (aj_sm (aj_a1 G) n) 1) (by decide) rfl (fun ls hl => ?_)
            refine lv_iinc (v := nI (n + 1)) (lv' := [(3, .int (nI (n + 1))), (2, .int (nI (aj_sm (aj_a1 G) n + 1))), (0, .ref (bd 0)), (1, .int x)]) hx hb dX1_answer_32 hl (k := 3) rfl (nI_add n 1) (by decide) rfl (fun ls hl => ?_)
            refine lv_goto (tgt := 4) hx hb dX1_answer_35 (by decide) ?_
            exact ih_4 (n + 1) (nI (aj_sm (aj_a1 G) n + 1)) (congrArg nI (by simp [aj_sm, aj_a1, *] <;> omega)) (by omega) (by omega) _ (lv_sub hl [2, 3, 1, 0] rfl)
          ·
            exact absurd c_20 (h1 n (by omega) c_15)
  exact L_4 32769 0 (nI 0) rfl (by omega) (by omega) _ (lv_sub hl [2, 3, 1, 0] rfl)

set_option maxHeartbeats 4000000 in
set_option maxRecDepth 100000 in
theorem aj_M_useful_ok (l : Launch) {D : va_G} {bd : Nat → Nat} {d2 d : ClassId} {G : aj_T} {S : Nat → Int32} {i : Nat} (h1 : i < 4) : aj_MR l yX1_useful cX1_useful 4 .int 4 D [(d, .int), (d2, .boolean)] [.ref (bd 0), .int (nI i)] (aj_MM D bd d2 d G S) (nI (aj_umV G i)) := by
  refine aj_ro RX1 (by decide) rfl (Nat.le_of_ble_eq_true rfl) (fun v h => aj_nI rfl v) ?_
  intro p e s m args below meth c ls Q F hK hP hl hret
  obtain ⟨hx, hb, hml, hown, hts⟩ := id F
  have hl : lv_has ls 4 [(0, .ref (bd 0)), (1, .int (nI i))] := hl
  obtain ⟨M, E, hM, hP⟩ := hP
  refine lv_iload_n hx hb dX1_useful_0 rfl (lv_at hl 1 rfl) ?_
  refine aj_iflt (tgt := 9) hx hb (by omega) dX1_useful_1 (by decide) ?_
  refine lv_iload_n hx hb dX1_useful_4 rfl (lv_at hl 1 rfl) ?_
  refine lv_iconst (v := nI 3) hx hb dX1_useful_5 (by decide) ?_
  refine aj_le (tgt := 11) hx hb (by omega) (by decide) dX1_useful_6 (by decide) (fun c_6 => ?_) (fun c_6 => ?_)
  ·
    refine lv_iconst (v := nI 0) hx hb dX1_useful_11 (by decide) ?_
    refine lv_istore_n (lv' := [(2, .int (nI 0)), (0, .ref (bd 0)), (1, .int (nI i))]) hx hb dX1_useful_12 rfl hl (by decide) rfl (fun ls hl => ?_)
    refine lv_bipush (v := nI 64) hx hb dX1_useful_13 (by decide) ?_
    refine lv_iload_n hx hb dX1_useful_15 rfl (lv_at hl 2 rfl) ?_
    refine aj_imul hx hb dX1_useful_16 ?_
    refine lv_istore_n (lv' := [(3, .int (nI (64 * i))), (2, .int (nI 0)), (0, .ref (bd 0)), (1, .int (nI i))]) hx hb dX1_useful_17 rfl hl (by decide) rfl (fun ls hl => ?_)
    have L_18 : ∀ (n_18 : Nat), ∀ (j : Nat) (z : Int32) (y : Int32), z = nI (64 * i + j) → y = nI (aj_sm (aj_um1 G i) j) → j ≤ 64 → 65 ≤ j + n_18 → ∀ (ls : Array Slot), lv_has ls 4 [(0, .ref (bd 0)), (1, .int (nI i)), (2, .int y), (3, .int z)] → W p l e (aj_rm 4) s m args below meth c s.heap [] 0 0 Q (F0 m 18 ls []) := by
      intro n_18
      induction n_18 with
      | zero =>
        intro j z y e_z e_y hj hfu ls hl
        exfalso; omega
      | succ n_18 ih_18 =>
        intro j z y e_z e_y hj hfu ls hl
        subst e_z
        subst e_y
        refine lv_iload_n hx hb dX1_useful_18 rfl (lv_at hl 3 rfl) ?_
        refine lv_bipush (v := nI 64) hx hb dX1_useful_19 (by decide) ?_
        refine lv_iload_n hx hb dX1_useful_21 rfl (lv_at hl 1 rfl) ?_
        refine aj_imul hx hb dX1_useful_22 ?_
        refine lv_bipush (v := nI 64) hx hb dX1_useful_23 (by decide) ?_
        refine aj_iadd hx hb dX1_useful_25 ?_
        refine aj_ge (tgt := 55) hx hb (by omega) (by omega) dX1_useful_26 (by decide) (fun c_26 => ?_) (fun c_26 => ?_)
        ·
          refine lv_iload_n hx hb dX1_useful_55 rfl (lv_at hl 2 rfl) ?_
          exact hret (nI (aj_sm (aj_um1 G i) j)) _ _ dX1_useful_56 ((by rw [show j = 64 by omega]; rfl))
        ·
          refine lv_aload_n hx hb dX1_useful_29 rfl (lv_at hl 0 rfl) ?_
          refine va_get (D := D) (ci := 1) (v := .ref (bd 1)) (C := RX1) (T := TX1) (N := 3) hx hb hts in_X1 hown hK hP 0 rfl rfl 0 (by decide) (hts _ q172) (fun _ h9 => h9) rfl dX1_useful_30 ?_
          refine lv_iload_n hx hb dX1_useful_33 rfl (lv_at hl 3 rfl) ?_
          refine aj_zald (y := nI ((G i (j / 8) (j % 8)).toNat)) hx hb hK hP 1 1 rfl rfl (by omega) (by decide) (aj_Mj hM h1 (by omega)) dX1_useful_34 ?_
          refine aj_ifeqB (tgt := 49) hx hb dX1_useful_35 (by decide) (fun c_35 => ?_) (fun c_35 => ?_)
          ·
            refine lv_iinc (v := nI (64 * i + j + 1)) (lv' := [(3, .int (nI (64 * i + j + 1))), (0, .ref (bd 0)), (1, .int (nI i)), (2, .int (nI (aj_sm (aj_um1 G i) j)))]) hx hb dX1_useful_49 hl (k := 3) rfl (nI_add (64 * i + j) 1) (by decide) rfl (fun ls hl => ?_)
            refine lv_goto (tgt := 18) hx hb dX1_useful_52 (by decide) ?_
            exact ih_18 (j + 1) (nI (64 * i + j + 1)) (nI (aj_sm (aj_um1 G i) j)) rfl (congrArg nI (by simp [aj_sm, aj_um1, *] <;> omega)) (by omega) (by omega) _ (lv_sub hl [1, 2, 3, 0] rfl)
          ·
            refine lv_aload_n hx hb dX1_useful_38 rfl (lv_at hl 0 rfl) ?_
            refine lv_iload_n hx hb dX1_useful_39 rfl (lv_at hl 3 rfl) ?_
            refine aj_callR (As := [.int (nI (64 * i + j))]) (rest := []) F (aj_countWith l hM (by omega)) aj_gX1_X1_countWith aj_hX1_countWith (aj_rmR (by decide) (by decide)) rfl rfl hK hP (va_recv (q0 := 0) hK hP (ci := 1) rfl rfl) rfl hl.1 rfl (Nat.le_of_ble_eq_true rfl) ⟨Nat.zero_le _, Nat.zero_le _⟩ dX1_useful_40 ?_
            refine aj_ifle (tgt := 49) hx hb (Nat.lt_of_le_of_lt (aj_cw_le G _) (by decide)) dX1_useful_43 (by decide) (fun c_43 => ?_) (fun c_43 => ?_)
            ·
              refine lv_iinc (v := nI (64 * i + j + 1)) (lv' := [(3, .int (nI (64 * i + j + 1))), (0, .ref (bd 0)), (1, .int (nI i)), (2, .int (nI (aj_sm (aj_um1 G i) j)))]) hx hb dX1_useful_49 hl (k := 3) rfl (nI_add (64 * i + j) 1) (by decide) rfl (fun ls hl => ?_)
              refine lv_goto (tgt := 18) hx hb dX1_useful_52 (by decide) ?_
              exact ih_18 (j + 1) (nI (64 * i + j + 1)) (nI (aj_sm (aj_um1 G i) j)) rfl (congrArg nI (by simp [aj_sm, aj_um1, *] <;> omega)) (by omega) (by omega) _ (lv_sub hl [1, 2, 3, 0] rfl)
            ·
              refine lv_iinc (v := nI (aj_sm (aj_um1 G i) j + 1)) (lv' := [(2, .int (nI (aj_sm (aj_um1 G i) j + 1))), (0, .ref (bd 0)), (1, .int (nI i)), (3, .int (nI (64 * i + j)))]) hx hb dX1_useful_46 hl (k := 2) rfl (nI_add (aj_sm (aj_um1 G i) j) 1) (by decide) rfl (fun ls hl => ?_)
              refine lv_iinc (v := nI (64 * i + j + 1)) (lv' := [(3, .int (nI (64 * i + j + 1))), (2, .int (nI (aj_sm (aj_um1 G i) j + 1))), (0, .ref (bd 0)), (1, .int (nI i))]) hx hb dX1_useful_49 hl (k := 3) rfl (nI_add (64 * i + j) 1) (by decide) rfl (fun ls hl => ?_)
              refine lv_goto (tgt := 18) hx hb dX1_useful_52 (by decide) ?_
              exact ih_18 (j + 1) (nI (64 * i + j + 1)) (nI (aj_sm (aj_um1 G i) j + 1)) rfl (congrArg nI (by simp [aj_sm, aj_um1, *] <;> omega)) (by omega) (by omega) _ (lv_sub hl [2, 3, 1, 0] rfl)
    exact L_18 65 0 (nI (64 * i)) (nI 0) rfl rfl (by omega) (by omega) _ (lv_sub hl [2, 3, 1, 0] rfl)
  ·
    exfalso; omega

set_option maxHeartbeats 4000000 in
set_option maxRecDepth 100000 in
theorem aj_M_useful_bad (l : Launch) {D : va_G} {bd : Nat → Nat} {d2 d : ClassId} {G : aj_T} {S : Nat → Int32} {x : Int32} (h1 : aj_out 4 x = true) : aj_MR l yX1_useful cX1_useful 4 .int 4 D [(d, .int), (d2, .boolean)] [.ref (bd 0), .int x] (aj_MM D bd d2 d G S) ((-1)) := by
  refine aj_ro RX1 (by decide) rfl (Nat.le_of_ble_eq_true rfl) (fun v h => aj_nI rfl v) ?_
  intro p e s m args below meth c ls Q F hK hP hl hret
  obtain ⟨hx, hb, hml, hown, hts⟩ := id F
  have hl : lv_has ls 4 [(0, .ref (bd 0)), (1, .int x)] := hl
  obtain ⟨M, E, hM, hP⟩ := hP
  refine lv_iload_n hx hb dX1_useful_0 rfl (lv_at hl 1 rfl) ?_
  refine lv_if_lt (tgt := 9) hx hb dX1_useful_1 (by decide) (fun c_1 => ?_) (fun c_1 => ?_)
  ·
    refine lv_iconst (v := (-1)) hx hb dX1_useful_9 (by decide) ?_
    exact hret ((-1)) _ _ dX1_useful_10 (rfl)
  ·
    refine lv_iload_n hx hb dX1_useful_4 rfl (lv_at hl 1 rfl) ?_
    refine lv_iconst (v := nI 3) hx hb dX1_useful_5 (by decide) ?_
    refine lv_icmp_le (tgt := 11) hx hb dX1_useful_6 (by decide) (fun c_6 => ?_) (fun c_6 => ?_)
    ·
      exact absurd c_6 (aj_out_no3 h1 c_1)
    ·
      refine lv_iconst (v := (-1)) hx hb dX1_useful_9 (by decide) ?_
      exact hret ((-1)) _ _ dX1_useful_10 (rfl)

set_option maxHeartbeats 4000000 in
set_option maxRecDepth 100000 in
theorem aj_M_weight_ok (l : Launch) {D : va_G} {bd : Nat → Nat} {d2 d : ClassId} {G : aj_T} {S : Nat → Int32} {i a b : Nat} (h1 : i < 4) (h2 : a < 8) (h3 : b < 8) : aj_MR l yX1_weight cX1_weight 4 .int 4 D [(d, .int), (d2, .boolean)] [.ref (bd 0), .int (nI i), .int (nI a), .int (nI b)] (aj_MM D bd d2 d G S) (nI (aj_cw G (64 * i + 8 * a + b))) := by
  refine aj_ro RX1 (by decide) rfl (Nat.le_of_ble_eq_true rfl) (fun v h => aj_nI rfl v) ?_
  intro p e s m args below meth c ls Q F hK hP hl hret
  obtain ⟨hx, hb, hml, hown, hts⟩ := id F
  have hl : lv_has ls 4 [(0, .ref (bd 0)), (1, .int (nI i)), (2, .int (nI a)), (3, .int (nI b))] := hl
  obtain ⟨M, E, hM, hP⟩ := hP
  refine lv_aload_n hx hb dX1_weight_0 rfl (lv_at hl 0 rfl) ?_
  refine lv_iload_n hx hb dX1_weight_1 rfl (lv_at hl 1 rfl) ?_
  refine lv_iload_n hx hb dX1_weight_2 rfl (lv_at hl 2 rfl) ?_
  refine lv_iload_n hx hb dX1_weight_3 rfl (lv_at hl 3 rfl) ?_
  refine aj_callR (As := [.int (nI i), .int (nI a), .int (nI b)]) (rest := []) F (aj_isRow l) aj_gX1_X1_isRow aj_hX1_isRow (aj_rmR (by decide) (by decide)) rfl rfl hK hP (va_recv (q0 := 0) hK hP (ci := 1) rfl rfl) rfl hl.1 rfl (Nat.le_of_ble_eq_true rfl) ⟨Nat.zero_le _, Nat.zero_le _⟩ dX1_weight_4 ?_
  refine aj_ifeqB (tgt := 28) hx hb dX1_weight_7 (by decide) (fun c_7 => ?_) (fun c_7 => ?_)
  ·
    rw [aj_isRw_ok h1 h2 h3] at c_7; cases c_7
  ·
    refine lv_aload_n hx hb dX1_weight_10 rfl (lv_at hl 0 rfl) ?_
    refine lv_bipush (v := nI 64) hx hb dX1_weight_11 (by decide) ?_
    refine lv_iload_n hx hb dX1_weight_13 rfl (lv_at hl 1 rfl) ?_
    refine aj_imul hx hb dX1_weight_14 ?_
    refine lv_bipush (v := nI 8) hx hb dX1_weight_15 (by decide) ?_
    refine lv_iload_n hx hb dX1_weight_17 rfl (lv_at hl 2 rfl) ?_
    refine aj_imul hx hb dX1_weight_18 ?_
    refine aj_iadd hx hb dX1_weight_19 ?_
    refine lv_iload_n hx hb dX1_weight_20 rfl (lv_at hl 3 rfl) ?_
    refine aj_iadd hx hb dX1_weight_21 ?_
    refine aj_callR (As := [.int (nI (((64 * i) + (8 * a)) + b))]) (rest := []) F (aj_countWith l hM (by omega)) aj_gX1_X1_countWith aj_hX1_countWith (aj_rmR (by decide) (by decide)) rfl rfl hK hP (va_recv (q0 := 0) hK hP (ci := 1) rfl rfl) rfl hl.1 rfl (Nat.le_of_ble_eq_true rfl) ⟨Nat.zero_le _, Nat.zero_le _⟩ dX1_weight_22 ?_
    refine lv_goto (tgt := 29) hx hb dX1_weight_25 (by decide) ?_
    exact hret (nI (aj_cw G (64 * i + 8 * a + b))) _ _ dX1_weight_29 (rfl)

set_option maxHeartbeats 4000000 in
set_option maxRecDepth 100000 in
theorem aj_M_weight_bad (l : Launch) {D : va_G} {bd : Nat → Nat} {d2 d : ClassId} {G : aj_T} {S : Nat → Int32} {x y z : Int32} (h1 : aj_bad x y z = true) : aj_MR l yX1_weight cX1_weight 4 .int 4 D [(d, .int), (d2, .boolean)] [.ref (bd 0), .int x, .int y, .int z] (aj_MM D bd d2 d G S) (nI 0) := by
  refine aj_ro RX1 (by decide) rfl (Nat.le_of_ble_eq_true rfl) (fun v h => aj_nI rfl v) ?_
  intro p e s m args below meth c ls Q F hK hP hl hret
  obtain ⟨hx, hb, hml, hown, hts⟩ := id F
  have hl : lv_has ls 4 [(0, .ref (bd 0)), (1, .int x), (2, .int y), (3, .int z)] := hl
  obtain ⟨M, E, hM, hP⟩ := hP
  refine lv_aload_n hx hb dX1_weight_0 rfl (lv_at hl 0 rfl) ?_
  refine lv_iload_n hx hb dX1_weight_1 rfl (lv_at hl 1 rfl) ?_
  refine lv_iload_n hx hb dX1_weight_2 rfl (lv_at hl 2 rfl) ?_
  refine lv_iload_n hx hb dX1_weight_3 rfl (lv_at hl 3 rfl) ?_
  refine aj_callR (As := [.int x, .int y, .int z]) (rest := []) F (aj_isRow l) aj_gX1_X1_isRow aj_hX1_isRow (aj_rmR (by decide) (by decide)) rfl rfl hK hP (va_recv (q0 := 0) hK hP (ci := 1) rfl rfl) rfl hl.1 rfl (Nat.le_of_ble_eq_true rfl) ⟨Nat.zero_le _, Nat.zero_le _⟩ dX1_weight_4 ?_
  refine aj_ifeqB (tgt := 28) hx hb dX1_weight_7 (by decide) (fun c_7 => ?_) (fun c_7 => ?_)
  ·
    refine lv_iconst (v := nI 0) hx hb dX1_weight_28 (by decide) ?_
    exact hret (nI 0) _ _ dX1_weight_29 (rfl)
  ·
    rw [aj_isRw_bad h1] at c_7; cases c_7

set_option maxHeartbeats 4000000 in
set_option maxRecDepth 100000 in
theorem aj_M_values_ok (l : Launch) {D : va_G} {bd : Nat → Nat} {d2 d : ClassId} {G : aj_T} {S : Nat → Int32} {k : Nat} (h1 : k < 5) : aj_MR l yX1_values cX1_values 4 .int 4 D [(d, .int), (d2, .boolean)] [.ref (bd 0), .int (nI k)] (aj_MM D bd d2 d G S) (nI (aj_vmV G k)) := by
  refine aj_ro RX1 (by decide) rfl (Nat.le_of_ble_eq_true rfl) (fun v h => aj_nI rfl v) ?_
  intro p e s m args below meth c ls Q F hK hP hl hret
  obtain ⟨hx, hb, hml, hown, hts⟩ := id F
  have hl : lv_has ls 4 [(0, .ref (bd 0)), (1, .int (nI k))] := hl
  obtain ⟨M, E, hM, hP⟩ := hP
  refine lv_iload_n hx hb dX1_values_0 rfl (lv_at hl 1 rfl) ?_
  refine aj_iflt (tgt := 9) hx hb (by omega) dX1_values_1 (by decide) ?_
  refine lv_iload_n hx hb dX1_values_4 rfl (lv_at hl 1 rfl) ?_
  refine lv_iconst (v := nI 4) hx hb dX1_values_5 (by decide) ?_
  refine aj_le (tgt := 11) hx hb (by omega) (by decide) dX1_values_6 (by decide) (fun c_6 => ?_) (fun c_6 => ?_)
  ·
    refine lv_iconst (v := nI 0) hx hb dX1_values_11 (by decide) ?_
    refine lv_istore_n (lv' := [(2, .int (nI 0)), (0, .ref (bd 0)), (1, .int (nI k))]) hx hb dX1_values_12 rfl hl (by decide) rfl (fun ls hl => ?_)
    refine lv_iconst (v := nI 0) hx hb dX1_values_13 (by decide) ?_
    refine lv_istore_n (lv' := [(3, .int (nI 0)), (2, .int (nI 0)), (0, .ref (bd 0)), (1, .int (nI k))]) hx hb dX1_values_14 rfl hl (by decide) rfl (fun ls hl => ?_)
    have L_15 : ∀ (n_15 : Nat), ∀ (v : Nat) (y : Int32), y = nI (aj_sm (aj_vm1 G k) v) → v ≤ 8 → 9 ≤ v + n_15 → ∀ (ls : Array Slot), lv_has ls 4 [(0, .ref (bd 0)), (1, .int (nI k)), (2, .int y), (3, .int (nI v))] → W p l e (aj_rm 4) s m args below meth c s.heap [] 0 0 Q (F0 m 15 ls []) := by
      intro n_15
      induction n_15 with
      | zero =>
        intro v y e_y hv hfu ls hl
        exfalso; omega
      | succ n_15 ih_15 =>
        intro v y e_y hv hfu ls hl
        subst e_y
        refine lv_iload_n hx hb dX1_values_15 rfl (lv_at hl 3 rfl) ?_
        refine lv_bipush (v := nI 8) hx hb dX1_values_16 (by decide) ?_
        refine aj_ge (tgt := 44) hx hb (by omega) (by decide) dX1_values_18 (by decide) (fun c_18 => ?_) (fun c_18 => ?_)
        ·
          refine lv_iload_n hx hb dX1_values_44 rfl (lv_at hl 2 rfl) ?_
          exact hret (nI (aj_sm (aj_vm1 G k) v)) _ _ dX1_values_45 ((by rw [show v = 8 by omega]; rfl))
        ·
          refine lv_aload_n hx hb dX1_values_21 rfl (lv_at hl 0 rfl) ?_
          refine lv_iload_n hx hb dX1_values_22 rfl (lv_at hl 1 rfl) ?_
          refine lv_iload_n hx hb dX1_values_23 rfl (lv_at hl 3 rfl) ?_
          refine aj_callR (As := [.int (nI k), .int (nI v)]) (rest := []) F (aj_countValue l hM h1 (by omega)) aj_gX1_X1_countValue aj_hX1_countValue (aj_rmR (by decide) (by decide)) rfl rfl hK hP (va_recv (q0 := 0) hK hP (ci := 1) rfl rfl) rfl hl.1 rfl (Nat.le_of_ble_eq_true rfl) ⟨Nat.zero_le _, Nat.zero_le _⟩ dX1_values_24 ?_
          refine aj_ifle (tgt := 36) hx hb (Nat.lt_of_le_of_lt (aj_cv_le G _ _) (by decide)) dX1_values_27 (by decide) (fun c_27 => ?_) (fun c_27 => ?_)
          ·
            refine lv_iload_n hx hb dX1_values_36 rfl (lv_at hl 2 rfl) ?_
            refine lv_istore_n (lv' := [(2, .int (nI (aj_sm (aj_vm1 G k) v))), (0, .ref (bd 0)), (1, .int (nI k)), (3, .int (nI v))]) hx hb dX1_values_37 rfl hl (by decide) rfl (fun ls hl => ?_)
            refine lv_iinc (v := nI (v + 1)) (lv' := [(3, .int (nI (v + 1))), (2, .int (nI (aj_sm (aj_vm1 G k) v))), (0, .ref (bd 0)), (1, .int (nI k))]) hx hb dX1_values_38 hl (k := 3) rfl (nI_add v 1) (by decide) rfl (fun ls hl => ?_)
            refine lv_goto (tgt := 15) hx hb dX1_values_41 (by decide) ?_
            exact ih_15 (v + 1) (nI (aj_sm (aj_vm1 G k) v)) (congrArg nI (by simp [aj_sm, aj_vm1, *] <;> omega)) (by omega) (by omega) _ (lv_sub hl [2, 3, 1, 0] rfl)
          ·
            refine lv_iload_n hx hb dX1_values_30 rfl (lv_at hl 2 rfl) ?_
            refine lv_iconst (v := nI 1) hx hb dX1_values_31 (by decide) ?_
            refine aj_iadd hx hb dX1_values_32 ?_
            refine lv_goto (tgt := 37) hx hb dX1_values_33 (by decide) ?_
            refine lv_istore_n (lv' := [(2, .int (nI ((aj_sm (aj_vm1 G k) v) + 1))), (0, .ref (bd 0)), (1, .int (nI k)), (3, .int (nI v))]) hx hb dX1_values_37 rfl hl (by decide) rfl (fun ls hl => ?_)
            refine lv_iinc (v := nI (v + 1)) (lv' := [(3, .int (nI (v + 1))), (2, .int (nI ((aj_sm (aj_vm1 G k) v) + 1))), (0, .ref (bd 0)), (1, .int (nI k))]) hx hb dX1_values_38 hl (k := 3) rfl (nI_add v 1) (by decide) rfl (fun ls hl => ?_)
            refine lv_goto (tgt := 15) hx hb dX1_values_41 (by decide) ?_
            exact ih_15 (v + 1) (nI ((aj_sm (aj_vm1 G k) v) + 1)) (congrArg nI (by simp [aj_sm, aj_vm1, *] <;> omega)) (by omega) (by omega) _ (lv_sub hl [2, 3, 1, 0] rfl)
    exact L_15 9 0 (nI 0) rfl (by omega) (by omega) _ (lv_sub hl [2, 3, 1, 0] rfl)
  ·
    exfalso; omega

set_option maxHeartbeats 4000000 in
set_option maxRecDepth 100000 in
theorem aj_M_values_bad (l : Launch) {D : va_G} {bd : Nat → Nat} {d2 d : ClassId} {G : aj_T} {S : Nat → Int32} {x : Int32} (h1 : aj_out 5 x = true) : aj_MR l yX1_values cX1_values 4 .int 4 D [(d, .int), (d2, .boolean)] [.ref (bd 0), .int x] (aj_MM D bd d2 d G S) ((-1)) := by
  refine aj_ro RX1 (by decide) rfl (Nat.le_of_ble_eq_true rfl) (fun v h => aj_nI rfl v) ?_
  intro p e s m args below meth c ls Q F hK hP hl hret
  obtain ⟨hx, hb, hml, hown, hts⟩ := id F
  have hl : lv_has ls 4 [(0, .ref (bd 0)), (1, .int x)] := hl
  obtain ⟨M, E, hM, hP⟩ := hP
  refine lv_iload_n hx hb dX1_values_0 rfl (lv_at hl 1 rfl) ?_
  refine lv_if_lt (tgt := 9) hx hb dX1_values_1 (by decide) (fun c_1 => ?_) (fun c_1 => ?_)
  ·
    refine lv_iconst (v := (-1)) hx hb dX1_values_9 (by decide) ?_
    exact hret ((-1)) _ _ dX1_values_10 (rfl)
  ·
    refine lv_iload_n hx hb dX1_values_4 rfl (lv_at hl 1 rfl) ?_
    refine lv_iconst (v := nI 4) hx hb dX1_values_5 (by decide) ?_
    refine lv_icmp_le (tgt := 11) hx hb dX1_values_6 (by decide) (fun c_6 => ?_) (fun c_6 => ?_)
    ·
      exact absurd c_6 (aj_out_no4 h1 c_1)
    ·
      refine lv_iconst (v := (-1)) hx hb dX1_values_9 (by decide) ?_
      exact hret ((-1)) _ _ dX1_values_10 (rfl)

set_option maxHeartbeats 4000000 in
set_option maxRecDepth 100000 in
theorem aj_M_with_ok (l : Launch) {D : va_G} {bd : Nat → Nat} {d2 d : ClassId} {G : aj_T} {S : Nat → Int32} {k v : Nat} (h1 : k < 5) (h2 : v < 8) : aj_MR l yX1_with cX1_with 3 .int 4 D [(d, .int), (d2, .boolean)] [.ref (bd 0), .int (nI k), .int (nI v)] (aj_MM D bd d2 d G S) (nI (aj_cv G k v)) := by
  refine aj_ro RX1 (by decide) rfl (Nat.le_of_ble_eq_true rfl) (fun v h => aj_nI rfl v) ?_
  intro p e s m args below meth c ls Q F hK hP hl hret
  obtain ⟨hx, hb, hml, hown, hts⟩ := id F
  have hl : lv_has ls 3 [(0, .ref (bd 0)), (1, .int (nI k)), (2, .int (nI v))] := hl
  obtain ⟨M, E, hM, hP⟩ := hP
  refine lv_iload_n hx hb dX1_with_0 rfl (lv_at hl 1 rfl) ?_
  refine aj_iflt (tgt := 17) hx hb (by omega) dX1_with_1 (by decide) ?_
  refine lv_iload_n hx hb dX1_with_4 rfl (lv_at hl 1 rfl) ?_
  refine lv_iconst (v := nI 4) hx hb dX1_with_5 (by decide) ?_
  refine aj_gt (tgt := 17) hx hb (by omega) (by decide) dX1_with_6 (by decide) (fun c_6 => ?_) (fun c_6 => ?_)
  ·
    exfalso; omega
  ·
    refine lv_aload_n hx hb dX1_with_9 rfl (lv_at hl 0 rfl) ?_
    refine lv_iload_n hx hb dX1_with_10 rfl (lv_at hl 2 rfl) ?_
    refine aj_callR (As := [.int (nI v)]) (rest := []) F (aj_isValue l) aj_gX1_X1_isValue aj_hX1_isValue (aj_rmR (by decide) (by decide)) rfl rfl hK hP (va_recv (q0 := 0) hK hP (ci := 1) rfl rfl) rfl hl.1 rfl (Nat.le_of_ble_eq_true rfl) ⟨Nat.zero_le _, Nat.zero_le _⟩ dX1_with_11 ?_
    refine aj_ifneB (tgt := 21) hx hb dX1_with_14 (by decide) (fun c_14 => ?_) (fun c_14 => ?_)
    ·
      refine lv_aload_n hx hb dX1_with_21 rfl (lv_at hl 0 rfl) ?_
      refine lv_iload_n hx hb dX1_with_22 rfl (lv_at hl 1 rfl) ?_
      refine lv_iload_n hx hb dX1_with_23 rfl (lv_at hl 2 rfl) ?_
      refine aj_callR (As := [.int (nI k), .int (nI v)]) (rest := []) F (aj_countValue l hM h1 (by omega)) aj_gX1_X1_countValue aj_hX1_countValue (aj_rmR (by decide) (by decide)) rfl rfl hK hP (va_recv (q0 := 0) hK hP (ci := 1) rfl rfl) rfl hl.1 rfl (Nat.le_of_ble_eq_true rfl) ⟨Nat.zero_le _, Nat.zero_le _⟩ dX1_with_24 ?_
      exact hret (nI (aj_cv G k v)) _ _ dX1_with_27 (rfl)
    ·
      rw [aj_isV_ok h2] at c_14; cases c_14

set_option maxHeartbeats 4000000 in
set_option maxRecDepth 100000 in
theorem aj_M_with_bad (l : Launch) {D : va_G} {bd : Nat → Nat} {d2 d : ClassId} {G : aj_T} {S : Nat → Int32} {x y : Int32} (h1 : (aj_out 5 x || aj_out 8 y) = true) : aj_MR l yX1_with cX1_with 3 .int 4 D [(d, .int), (d2, .boolean)] [.ref (bd 0), .int x, .int y] (aj_MM D bd d2 d G S) ((-1)) := by
  refine aj_ro RX1 (by decide) rfl (Nat.le_of_ble_eq_true rfl) (fun v h => aj_nI rfl v) ?_
  intro p e s m args below meth c ls Q F hK hP hl hret
  obtain ⟨hx, hb, hml, hown, hts⟩ := id F
  have hl : lv_has ls 3 [(0, .ref (bd 0)), (1, .int x), (2, .int y)] := hl
  obtain ⟨M, E, hM, hP⟩ := hP
  refine lv_iload_n hx hb dX1_with_0 rfl (lv_at hl 1 rfl) ?_
  refine lv_if_lt (tgt := 17) hx hb dX1_with_1 (by decide) (fun c_1 => ?_) (fun c_1 => ?_)
  ·
    refine lv_iconst (v := (-1)) hx hb dX1_with_17 (by decide) ?_
    refine lv_goto (tgt := 27) hx hb dX1_with_18 (by decide) ?_
    exact hret ((-1)) _ _ dX1_with_27 (rfl)
  ·
    refine lv_iload_n hx hb dX1_with_4 rfl (lv_at hl 1 rfl) ?_
    refine lv_iconst (v := nI 4) hx hb dX1_with_5 (by decide) ?_
    refine lv_icmp_gt (tgt := 17) hx hb dX1_with_6 (by decide) (fun c_6 => ?_) (fun c_6 => ?_)
    ·
      refine lv_iconst (v := (-1)) hx hb dX1_with_17 (by decide) ?_
      refine lv_goto (tgt := 27) hx hb dX1_with_18 (by decide) ?_
      exact hret ((-1)) _ _ dX1_with_27 (rfl)
    ·
      refine lv_aload_n hx hb dX1_with_9 rfl (lv_at hl 0 rfl) ?_
      refine lv_iload_n hx hb dX1_with_10 rfl (lv_at hl 2 rfl) ?_
      refine aj_callR (As := [.int y]) (rest := []) F (aj_isValue l) aj_gX1_X1_isValue aj_hX1_isValue (aj_rmR (by decide) (by decide)) rfl rfl hK hP (va_recv (q0 := 0) hK hP (ci := 1) rfl rfl) rfl hl.1 rfl (Nat.le_of_ble_eq_true rfl) ⟨Nat.zero_le _, Nat.zero_le _⟩ dX1_with_11 ?_
      refine aj_ifneB (tgt := 21) hx hb dX1_with_14 (by decide) (fun c_14 => ?_) (fun c_14 => ?_)
      ·
        exact absurd h1 (aj_wnoM c_1 c_6 c_14)
      ·
        refine lv_iconst (v := (-1)) hx hb dX1_with_17 (by decide) ?_
        refine lv_goto (tgt := 27) hx hb dX1_with_18 (by decide) ?_
        exact hret ((-1)) _ _ dX1_with_27 (rfl)

end
end
section
section
theorem aj_setG_back {G : aj_T} {i a b : Nat} (h : G i a b = false) : aj_setG (aj_setG G i a b true) i a b false = G := by
  funext j c e
  by_cases q : j = i ∧ c = a ∧ e = b
  · obtain ⟨rfl, rfl, rfl⟩ := q
    simp [aj_setG, h]
  · simp only [aj_setG, if_neg q]
theorem aj_pr_lt (n : Nat) : aj_pr n < 64 := by
  have h0 := aj_vI_lt n 0
  have h3 := aj_vI_lt n 3
  unfold aj_pr
  omega
set_option maxHeartbeats 4000000 in
set_option maxRecDepth 100000 in
theorem aj_M_put_ok (l : Launch) {D : va_G} {bd : Nat → Nat} {d2 d : ClassId} {G : aj_T} {S : Nat → Int32} (hap : aj_Ap 4 bd) {i a b : Nat} (h1 : i < 4) (h2 : a < 8) (h3 : b < 8) : aj_MW l yX1_put cX1_put 4 .int 2 D [(d, .int), (d2, .boolean)] [.ref (bd 0), .int (nI i), .int (nI a), .int (nI b)] (aj_MM D bd d2 d G S) (aj_PV (aj_putV G S i a b) (aj_MM D bd d2 d (aj_putG G S i a b) (aj_putS G S i a b))) (aj_In 4 bd) := by
  refine aj_rw (Post := aj_PV (aj_putV G S i a b) (aj_MM D bd d2 d (aj_putG G S i a b) (aj_putS G S i a b))) (pre := (aj_MM D bd d2 d G S)) (aj_In 4 bd) RX1 (by decide) rfl (Nat.le_of_ble_eq_true rfl) (fun v H h => aj_nI rfl v) ?_
  intro p e s m args below meth c ls Q F hK hP hl hret
  obtain ⟨hx, hb, hml, hown, hts⟩ := id F
  have hS : va_S (aj_In 4 bd) s.heap s.heap [] := va_S.rf
  have hl : lv_has ls 4 [(0, .ref (bd 0)), (1, .int (nI i)), (2, .int (nI a)), (3, .int (nI b))] := hl
  obtain ⟨M, E, hM, hP⟩ := hP
  refine lv_aload_n hx hb dX1_put_0 rfl (lv_at hl 0 rfl) ?_
  refine lv_iload_n hx hb dX1_put_1 rfl (lv_at hl 1 rfl) ?_
  refine lv_iload_n hx hb dX1_put_2 rfl (lv_at hl 2 rfl) ?_
  refine lv_iload_n hx hb dX1_put_3 rfl (lv_at hl 3 rfl) ?_
  refine aj_callR (As := [.int (nI i), .int (nI a), .int (nI b)]) (rest := []) F (aj_isRow l) aj_gX1_X1_isRow aj_hX1_isRow (aj_rmR (by decide) (by decide)) rfl rfl hK hP (va_recv (q0 := 0) hK hP (ci := 1) rfl rfl) rfl hl.1 rfl (Nat.le_of_ble_eq_true rfl) ⟨Nat.zero_le _, Nat.zero_le _⟩ dX1_put_4 ?_
  refine aj_ifneB (tgt := 12) hx hb dX1_put_7 (by decide) (fun c_7 => ?_) (fun c_7 => ?_)
  ·
    refine lv_aload_n hx hb dX1_put_12 rfl (lv_at hl 0 rfl) ?_
    refine va_get (D := D) (ci := 1) (v := .ref (bd 1)) (C := RX1) (T := TX1) (N := 3) hx hb hts in_X1 hown hK hP 0 rfl rfl 0 (by decide) (hts _ q172) (fun _ h9 => h9) rfl dX1_put_13 ?_
    refine lv_bipush (v := nI 64) hx hb dX1_put_16 (by decide) ?_
    refine lv_iload_n hx hb dX1_put_18 rfl (lv_at hl 1 rfl) ?_
    refine aj_imul hx hb dX1_put_19 ?_
    refine lv_bipush (v := nI 8) hx hb dX1_put_20 (by decide) ?_
    refine lv_iload_n hx hb dX1_put_22 rfl (lv_at hl 2 rfl) ?_
    refine aj_imul hx hb dX1_put_23 ?_
    refine aj_iadd hx hb dX1_put_24 ?_
    refine lv_iload_n hx hb dX1_put_25 rfl (lv_at hl 3 rfl) ?_
    refine aj_iadd hx hb dX1_put_26 ?_
    refine aj_zald (y := nI ((G i a b).toNat)) hx hb hK hP 1 1 rfl rfl (by omega) (by decide) (hM i a b h1 h2 h3) dX1_put_27 ?_
    refine aj_ifeqB (tgt := 34) hx hb dX1_put_28 (by decide) (fun c_28 => ?_) (fun c_28 => ?_)
    ·
      have hg0 : ¬ G i a b = true := by rw [c_28]; decide
      refine lv_aload_n hx hb dX1_put_34 rfl (lv_at hl 0 rfl) ?_
      refine va_get (D := D) (ci := 1) (v := .ref (bd 2)) (C := RX1) (T := TX1) (N := 3) hx hb hts in_X1 hown hK hP 0 rfl rfl 1 (by decide) (hts _ q173) (fun _ h9 => h9) rfl dX1_put_35 ?_
      refine lv_iload_n hx hb dX1_put_38 rfl (lv_at hl 1 rfl) ?_
      refine aj_iald (y := S i) hx hb hK hP 2 0 rfl rfl (by omega) (by decide) rfl dX1_put_39 ?_
      refine lv_bipush (v := nI 10) hx hb dX1_put_40 (by decide) ?_
      refine lv_icmp_ne (tgt := 48) hx hb dX1_put_42 (by decide) (fun c_42 => ?_) (fun c_42 => ?_)
      ·
        refine lv_aload_n hx hb dX1_put_48 rfl (lv_at hl 0 rfl) ?_
        refine va_get (D := D) (ci := 1) (v := .ref (bd 1)) (C := RX1) (T := TX1) (N := 3) hx hb hts in_X1 hown hK hP 0 rfl rfl 0 (by decide) (hts _ q172) (fun _ h9 => h9) rfl dX1_put_49 ?_
        refine lv_bipush (v := nI 64) hx hb dX1_put_52 (by decide) ?_
        refine lv_iload_n hx hb dX1_put_54 rfl (lv_at hl 1 rfl) ?_
        refine aj_imul hx hb dX1_put_55 ?_
        refine lv_bipush (v := nI 8) hx hb dX1_put_56 (by decide) ?_
        refine lv_iload_n hx hb dX1_put_58 rfl (lv_at hl 2 rfl) ?_
        refine aj_imul hx hb dX1_put_59 ?_
        refine aj_iadd hx hb dX1_put_60 ?_
        refine lv_iload_n hx hb dX1_put_61 rfl (lv_at hl 3 rfl) ?_
        refine aj_iadd hx hb dX1_put_62 ?_
        refine lv_iconst (v := nI 1) hx hb dX1_put_63 (by decide) ?_
        refine aj_zast hx hb hK hP (aj_mD hap) hS 1 1 rfl rfl (by omega) (by decide) rfl dX1_put_64 (fun H locs hP hS => ?_)
        have hP : va_P D aj_cl (aj_mW bd d2 d (upd M (((64 * i) + (8 * a)) + b) (nI 1)) S E) H := hP
        refine lv_aload_n hx hb dX1_put_65 rfl (lv_at hl 0 rfl) ?_
        refine va_get (D := D) (ci := 1) (v := .ref (bd 2)) (C := RX1) (T := TX1) (N := 3) hx hb hts in_X1 hown hK hP 0 rfl rfl 1 (by decide) (hts _ q173) (fun _ h9 => h9) rfl dX1_put_66 ?_
        refine lv_iload_n hx hb dX1_put_69 rfl (lv_at hl 1 rfl) ?_
        refine lv_dup2_11 hx hb dX1_put_70 rfl rfl ?_
        refine aj_iald (y := S i) hx hb hK hP 2 0 rfl rfl (by omega) (by decide) rfl dX1_put_71 ?_
        refine lv_iconst (v := nI 1) hx hb dX1_put_72 (by decide) ?_
        refine lv_iadd hx hb dX1_put_73 ?_
        refine aj_iast hx hb hK hP (aj_mD hap) hS 2 0 rfl rfl (by omega) (by decide) dX1_put_74 (fun H locs hP hS => ?_)
        have hP : va_P D aj_cl (aj_mW bd d2 d (upd M (((64 * i) + (8 * a)) + b) (nI 1)) (upd S i ((S i) + (nI 1))) E) H := hP
        refine lv_aload_n hx hb dX1_put_75 rfl (lv_at hl 0 rfl) ?_
        refine va_get (D := D) (ci := 1) (v := .ref (bd 2)) (C := RX1) (T := TX1) (N := 3) hx hb hts in_X1 hown hK hP 0 rfl rfl 1 (by decide) (hts _ q173) (fun _ h9 => h9) rfl dX1_put_76 ?_
        refine lv_iload_n hx hb dX1_put_79 rfl (lv_at hl 1 rfl) ?_
        refine aj_iald (y := S i + nI 1) hx hb hK hP 2 0 rfl rfl (by omega) (by decide) pk_us dX1_put_80 ?_
        exact hret (S i + nI 1) _ _ _ _ dX1_put_81 hS (⟨by rw [aj_putV, if_neg hg0, if_neg c_42], by rw [aj_putG, aj_putS, if_neg hg0, if_neg hg0, if_neg c_42, if_neg c_42]; exact ⟨_, E, aj_MRel_set hM h1 h2 h3 true rfl, hP⟩⟩)
      ·
        refine lv_bipush (v := (-2)) hx hb dX1_put_45 (by decide) ?_
        exact hret ((-2)) _ _ _ _ dX1_put_47 hS (⟨by simp [aj_putV, c_28, c_42], by rw [aj_putG, aj_putS, if_neg hg0, if_neg hg0, if_pos c_42, if_pos c_42]; exact ⟨M, E, hM, hP⟩⟩)
    ·
      refine lv_bipush (v := (-4)) hx hb dX1_put_31 (by decide) ?_
      exact hret ((-4)) _ _ _ _ dX1_put_33 hS (⟨by simp [aj_putV, c_28], by simp only [aj_putG, aj_putS, c_28, if_true]; exact ⟨M, E, hM, hP⟩⟩)
  ·
    rw [aj_isRw_ok h1 h2 h3] at c_7; cases c_7

set_option maxHeartbeats 4000000 in
set_option maxRecDepth 100000 in
theorem aj_M_put_bad (l : Launch) {D : va_G} {bd : Nat → Nat} {d2 d : ClassId} {G : aj_T} {S : Nat → Int32} (hap : aj_Ap 4 bd) {x y z : Int32} (h1 : aj_bad x y z = true) : aj_MW l yX1_put cX1_put 4 .int 2 D [(d, .int), (d2, .boolean)] [.ref (bd 0), .int x, .int y, .int z] (aj_MM D bd d2 d G S) (aj_PV ((-1)) (aj_MM D bd d2 d G S)) (aj_In 4 bd) := by
  refine aj_rw (Post := aj_PV ((-1)) (aj_MM D bd d2 d G S)) (pre := (aj_MM D bd d2 d G S)) (aj_In 4 bd) RX1 (by decide) rfl (Nat.le_of_ble_eq_true rfl) (fun v H h => aj_nI rfl v) ?_
  intro p e s m args below meth c ls Q F hK hP hl hret
  obtain ⟨hx, hb, hml, hown, hts⟩ := id F
  have hS : va_S (aj_In 4 bd) s.heap s.heap [] := va_S.rf
  have hl : lv_has ls 4 [(0, .ref (bd 0)), (1, .int x), (2, .int y), (3, .int z)] := hl
  obtain ⟨M, E, hM, hP⟩ := hP
  refine lv_aload_n hx hb dX1_put_0 rfl (lv_at hl 0 rfl) ?_
  refine lv_iload_n hx hb dX1_put_1 rfl (lv_at hl 1 rfl) ?_
  refine lv_iload_n hx hb dX1_put_2 rfl (lv_at hl 2 rfl) ?_
  refine lv_iload_n hx hb dX1_put_3 rfl (lv_at hl 3 rfl) ?_
  refine aj_callR (As := [.int x, .int y, .int z]) (rest := []) F (aj_isRow l) aj_gX1_X1_isRow aj_hX1_isRow (aj_rmR (by decide) (by decide)) rfl rfl hK hP (va_recv (q0 := 0) hK hP (ci := 1) rfl rfl) rfl hl.1 rfl (Nat.le_of_ble_eq_true rfl) ⟨Nat.zero_le _, Nat.zero_le _⟩ dX1_put_4 ?_
  refine aj_ifneB (tgt := 12) hx hb dX1_put_7 (by decide) (fun c_7 => ?_) (fun c_7 => ?_)
  ·
    rw [aj_isRw_bad h1] at c_7; cases c_7
  ·
    refine lv_iconst (v := (-1)) hx hb dX1_put_10 (by decide) ?_
    exact hret ((-1)) _ _ _ _ dX1_put_11 hS (⟨rfl, M, E, hM, hP⟩)

set_option maxHeartbeats 4000000 in
set_option maxRecDepth 100000 in
theorem aj_M_drop_ok (l : Launch) {D : va_G} {bd : Nat → Nat} {d2 d : ClassId} {G : aj_T} {S : Nat → Int32} (hap : aj_Ap 4 bd) {i a b : Nat} (h1 : i < 4) (h2 : a < 8) (h3 : b < 8) : aj_MW l yX1_drop cX1_drop 4 .int 2 D [(d, .int), (d2, .boolean)] [.ref (bd 0), .int (nI i), .int (nI a), .int (nI b)] (aj_MM D bd d2 d G S) (aj_PV (aj_dropV G S i a b) (aj_MM D bd d2 d (aj_dropG G i a b) (aj_dropS G S i a b))) (aj_In 4 bd) := by
  refine aj_rw (Post := aj_PV (aj_dropV G S i a b) (aj_MM D bd d2 d (aj_dropG G i a b) (aj_dropS G S i a b))) (pre := (aj_MM D bd d2 d G S)) (aj_In 4 bd) RX1 (by decide) rfl (Nat.le_of_ble_eq_true rfl) (fun v H h => aj_nI rfl v) ?_
  intro p e s m args below meth c ls Q F hK hP hl hret
  obtain ⟨hx, hb, hml, hown, hts⟩ := id F
  have hS : va_S (aj_In 4 bd) s.heap s.heap [] := va_S.rf
  have hl : lv_has ls 4 [(0, .ref (bd 0)), (1, .int (nI i)), (2, .int (nI a)), (3, .int (nI b))] := hl
  obtain ⟨M, E, hM, hP⟩ := hP
  refine lv_aload_n hx hb dX1_drop_0 rfl (lv_at hl 0 rfl) ?_
  refine lv_iload_n hx hb dX1_drop_1 rfl (lv_at hl 1 rfl) ?_
  refine lv_iload_n hx hb dX1_drop_2 rfl (lv_at hl 2 rfl) ?_
  refine lv_iload_n hx hb dX1_drop_3 rfl (lv_at hl 3 rfl) ?_
  refine aj_callR (As := [.int (nI i), .int (nI a), .int (nI b)]) (rest := []) F (aj_isRow l) aj_gX1_X1_isRow aj_hX1_isRow (aj_rmR (by decide) (by decide)) rfl rfl hK hP (va_recv (q0 := 0) hK hP (ci := 1) rfl rfl) rfl hl.1 rfl (Nat.le_of_ble_eq_true rfl) ⟨Nat.zero_le _, Nat.zero_le _⟩ dX1_drop_4 ?_
  refine aj_ifneB (tgt := 12) hx hb dX1_drop_7 (by decide) (fun c_7 => ?_) (fun c_7 => ?_)
  ·
    refine lv_aload_n hx hb dX1_drop_12 rfl (lv_at hl 0 rfl) ?_
    refine va_get (D := D) (ci := 1) (v := .ref (bd 1)) (C := RX1) (T := TX1) (N := 3) hx hb hts in_X1 hown hK hP 0 rfl rfl 0 (by decide) (hts _ q172) (fun _ h9 => h9) rfl dX1_drop_13 ?_
    refine lv_bipush (v := nI 64) hx hb dX1_drop_16 (by decide) ?_
    refine lv_iload_n hx hb dX1_drop_18 rfl (lv_at hl 1 rfl) ?_
    refine aj_imul hx hb dX1_drop_19 ?_
    refine lv_bipush (v := nI 8) hx hb dX1_drop_20 (by decide) ?_
    refine lv_iload_n hx hb dX1_drop_22 rfl (lv_at hl 2 rfl) ?_
    refine aj_imul hx hb dX1_drop_23 ?_
    refine aj_iadd hx hb dX1_drop_24 ?_
    refine lv_iload_n hx hb dX1_drop_25 rfl (lv_at hl 3 rfl) ?_
    refine aj_iadd hx hb dX1_drop_26 ?_
    refine aj_zald (y := nI ((G i a b).toNat)) hx hb hK hP 1 1 rfl rfl (by omega) (by decide) (hM i a b h1 h2 h3) dX1_drop_27 ?_
    refine aj_ifneB (tgt := 34) hx hb dX1_drop_28 (by decide) (fun c_28 => ?_) (fun c_28 => ?_)
    ·
      refine lv_aload_n hx hb dX1_drop_34 rfl (lv_at hl 0 rfl) ?_
      refine va_get (D := D) (ci := 1) (v := .ref (bd 1)) (C := RX1) (T := TX1) (N := 3) hx hb hts in_X1 hown hK hP 0 rfl rfl 0 (by decide) (hts _ q172) (fun _ h9 => h9) rfl dX1_drop_35 ?_
      refine lv_bipush (v := nI 64) hx hb dX1_drop_38 (by decide) ?_
      refine lv_iload_n hx hb dX1_drop_40 rfl (lv_at hl 1 rfl) ?_
      refine aj_imul hx hb dX1_drop_41 ?_
      refine lv_bipush (v := nI 8) hx hb dX1_drop_42 (by decide) ?_
      refine lv_iload_n hx hb dX1_drop_44 rfl (lv_at hl 2 rfl) ?_
      refine aj_imul hx hb dX1_drop_45 ?_
      refine aj_iadd hx hb dX1_drop_46 ?_
      refine lv_iload_n hx hb dX1_drop_47 rfl (lv_at hl 3 rfl) ?_
      refine aj_iadd hx hb dX1_drop_48 ?_
      refine lv_iconst (v := nI 0) hx hb dX1_drop_49 (by decide) ?_
      refine aj_zast hx hb hK hP (aj_mD hap) hS 1 1 rfl rfl (by omega) (by decide) rfl dX1_drop_50 (fun H locs hP hS => ?_)
      have hP : va_P D aj_cl (aj_mW bd d2 d (upd M (((64 * i) + (8 * a)) + b) (nI 0)) S E) H := hP
      refine lv_aload_n hx hb dX1_drop_51 rfl (lv_at hl 0 rfl) ?_
      refine va_get (D := D) (ci := 1) (v := .ref (bd 2)) (C := RX1) (T := TX1) (N := 3) hx hb hts in_X1 hown hK hP 0 rfl rfl 1 (by decide) (hts _ q173) (fun _ h9 => h9) rfl dX1_drop_52 ?_
      refine lv_iload_n hx hb dX1_drop_55 rfl (lv_at hl 1 rfl) ?_
      refine lv_dup2_11 hx hb dX1_drop_56 rfl rfl ?_
      refine aj_iald (y := S i) hx hb hK hP 2 0 rfl rfl (by omega) (by decide) rfl dX1_drop_57 ?_
      refine lv_iconst (v := nI 1) hx hb dX1_drop_58 (by decide) ?_
      refine lv_isub hx hb dX1_drop_59 ?_
      refine aj_iast hx hb hK hP (aj_mD hap) hS 2 0 rfl rfl (by omega) (by decide) dX1_drop_60 (fun H locs hP hS => ?_)
      have hP : va_P D aj_cl (aj_mW bd d2 d (upd M (((64 * i) + (8 * a)) + b) (nI 0)) (upd S i ((S i) - (nI 1))) E) H := hP
      refine lv_aload_n hx hb dX1_drop_61 rfl (lv_at hl 0 rfl) ?_
      refine va_get (D := D) (ci := 1) (v := .ref (bd 2)) (C := RX1) (T := TX1) (N := 3) hx hb hts in_X1 hown hK hP 0 rfl rfl 1 (by decide) (hts _ q173) (fun _ h9 => h9) rfl dX1_drop_62 ?_
      refine lv_iload_n hx hb dX1_drop_65 rfl (lv_at hl 1 rfl) ?_
      refine aj_iald (y := S i - nI 1) hx hb hK hP 2 0 rfl rfl (by omega) (by decide) pk_us dX1_drop_66 ?_
      exact hret (S i - nI 1) _ _ _ _ dX1_drop_67 hS (⟨by rw [aj_dropV, if_pos c_28], by rw [aj_dropG, aj_dropS, if_pos c_28, if_pos c_28]; exact ⟨_, E, aj_MRel_set hM h1 h2 h3 false rfl, hP⟩⟩)
    ·
      have hg0 : ¬ G i a b = true := by rw [c_28]; decide
      refine lv_bipush (v := (-4)) hx hb dX1_drop_31 (by decide) ?_
      exact hret ((-4)) _ _ _ _ dX1_drop_33 hS (⟨by simp [aj_dropV, c_28], by rw [aj_dropG, aj_dropS, if_neg hg0, if_neg hg0]; exact ⟨M, E, hM, hP⟩⟩)
  ·
    rw [aj_isRw_ok h1 h2 h3] at c_7; cases c_7

set_option maxHeartbeats 4000000 in
set_option maxRecDepth 100000 in
theorem aj_M_drop_bad (l : Launch) {D : va_G} {bd : Nat → Nat} {d2 d : ClassId} {G : aj_T} {S : Nat → Int32} (hap : aj_Ap 4 bd) {x y z : Int32} (h1 : aj_bad x y z = true) : aj_MW l yX1_drop cX1_drop 4 .int 2 D [(d, .int), (d2, .boolean)] [.ref (bd 0), .int x, .int y, .int z] (aj_MM D bd d2 d G S) (aj_PV ((-1)) (aj_MM D bd d2 d G S)) (aj_In 4 bd) := by
  refine aj_rw (Post := aj_PV ((-1)) (aj_MM D bd d2 d G S)) (pre := (aj_MM D bd d2 d G S)) (aj_In 4 bd) RX1 (by decide) rfl (Nat.le_of_ble_eq_true rfl) (fun v H h => aj_nI rfl v) ?_
  intro p e s m args below meth c ls Q F hK hP hl hret
  obtain ⟨hx, hb, hml, hown, hts⟩ := id F
  have hS : va_S (aj_In 4 bd) s.heap s.heap [] := va_S.rf
  have hl : lv_has ls 4 [(0, .ref (bd 0)), (1, .int x), (2, .int y), (3, .int z)] := hl
  obtain ⟨M, E, hM, hP⟩ := hP
  refine lv_aload_n hx hb dX1_drop_0 rfl (lv_at hl 0 rfl) ?_
  refine lv_iload_n hx hb dX1_drop_1 rfl (lv_at hl 1 rfl) ?_
  refine lv_iload_n hx hb dX1_drop_2 rfl (lv_at hl 2 rfl) ?_
  refine lv_iload_n hx hb dX1_drop_3 rfl (lv_at hl 3 rfl) ?_
  refine aj_callR (As := [.int x, .int y, .int z]) (rest := []) F (aj_isRow l) aj_gX1_X1_isRow aj_hX1_isRow (aj_rmR (by decide) (by decide)) rfl rfl hK hP (va_recv (q0 := 0) hK hP (ci := 1) rfl rfl) rfl hl.1 rfl (Nat.le_of_ble_eq_true rfl) ⟨Nat.zero_le _, Nat.zero_le _⟩ dX1_drop_4 ?_
  refine aj_ifneB (tgt := 12) hx hb dX1_drop_7 (by decide) (fun c_7 => ?_) (fun c_7 => ?_)
  ·
    rw [aj_isRw_bad h1] at c_7; cases c_7
  ·
    refine lv_iconst (v := (-1)) hx hb dX1_drop_10 (by decide) ?_
    exact hret ((-1)) _ _ _ _ dX1_drop_11 hS (⟨rfl, M, E, hM, hP⟩)

set_option maxHeartbeats 4000000 in
set_option maxRecDepth 100000 in
theorem aj_M_clear_ok (l : Launch) {D : va_G} {bd : Nat → Nat} {d2 d : ClassId} {G : aj_T} {S : Nat → Int32} (hap : aj_Ap 4 bd) {i : Nat} (h1 : i < 4) : aj_MW l yX1_clear cX1_clear 4 .int 0 D [(d, .int), (d2, .boolean)] [.ref (bd 0), .int (nI i)] (aj_MM D bd d2 d G S) (aj_PV (S i) (aj_MM D bd d2 d (aj_clrG G i) (upd S i (nI 0)))) (aj_In 4 bd) := by
  refine aj_rw (Post := aj_PV (S i) (aj_MM D bd d2 d (aj_clrG G i) (upd S i (nI 0)))) (pre := (aj_MM D bd d2 d G S)) (aj_In 4 bd) RX1 (by decide) rfl (Nat.le_of_ble_eq_true rfl) (fun v H h => aj_nI rfl v) ?_
  intro p e s m args below meth c ls Q F hK hP hl hret
  obtain ⟨hx, hb, hml, hown, hts⟩ := id F
  have hS : va_S (aj_In 4 bd) s.heap s.heap [] := va_S.rf
  have hl : lv_has ls 4 [(0, .ref (bd 0)), (1, .int (nI i))] := hl
  obtain ⟨M, E, hM, hP⟩ := hP
  refine lv_iload_n hx hb dX1_clear_0 rfl (lv_at hl 1 rfl) ?_
  refine aj_iflt (tgt := 9) hx hb (by omega) dX1_clear_1 (by decide) ?_
  refine lv_iload_n hx hb dX1_clear_4 rfl (lv_at hl 1 rfl) ?_
  refine lv_iconst (v := nI 3) hx hb dX1_clear_5 (by decide) ?_
  refine aj_le (tgt := 11) hx hb (by omega) (by decide) dX1_clear_6 (by decide) (fun c_6 => ?_) (fun c_6 => ?_)
  ·
    refine lv_aload_n hx hb dX1_clear_11 rfl (lv_at hl 0 rfl) ?_
    refine va_get (D := D) (ci := 1) (v := .ref (bd 2)) (C := RX1) (T := TX1) (N := 3) hx hb hts in_X1 hown hK hP 0 rfl rfl 1 (by decide) (hts _ q173) (fun _ h9 => h9) rfl dX1_clear_12 ?_
    refine lv_iload_n hx hb dX1_clear_15 rfl (lv_at hl 1 rfl) ?_
    refine aj_iald (y := S i) hx hb hK hP 2 0 rfl rfl (by omega) (by decide) rfl dX1_clear_16 ?_
    refine lv_istore_n (lv' := [(2, .int (S i)), (0, .ref (bd 0)), (1, .int (nI i))]) hx hb dX1_clear_17 rfl hl (by decide) rfl (fun ls hl => ?_)
    refine lv_aload_n hx hb dX1_clear_18 rfl (lv_at hl 1 rfl) ?_
    refine va_get (D := D) (ci := 1) (v := .ref (bd 2)) (C := RX1) (T := TX1) (N := 3) hx hb hts in_X1 hown hK hP 0 rfl rfl 1 (by decide) (hts _ q173) (fun _ h9 => h9) rfl dX1_clear_19 ?_
    refine lv_iload_n hx hb dX1_clear_22 rfl (lv_at hl 2 rfl) ?_
    refine lv_iconst (v := nI 0) hx hb dX1_clear_23 (by decide) ?_
    refine aj_iast hx hb hK hP (aj_mD hap) hS 2 0 rfl rfl (by omega) (by decide) dX1_clear_24 (fun H locs hP hS => ?_)
    have hP : va_P D aj_cl (aj_mW bd d2 d M (upd S i (nI 0)) E) H := hP
    refine lv_bipush (v := nI 64) hx hb dX1_clear_25 (by decide) ?_
    refine lv_iload_n hx hb dX1_clear_27 rfl (lv_at hl 2 rfl) ?_
    refine aj_imul hx hb dX1_clear_28 ?_
    refine lv_istore_n (lv' := [(3, .int (nI (64 * i))), (2, .int (S i)), (0, .ref (bd 0)), (1, .int (nI i))]) hx hb dX1_clear_29 rfl hl (by decide) rfl (fun ls hl => ?_)
    have L_30 : ∀ (n_30 : Nat), ∀ (j : Nat) (M1 : Nat → Int32) (z : Int32), z = nI (64 * i + j) → j ≤ 64 → (∀ k, k < j → M1 (64 * i + k) = nI 0) → (∀ k, k < 64 * i ∨ 64 * i + 64 ≤ k → M1 k = M k) → 65 ≤ j + n_30 → ∀ (H : Heap) (locs : List Loc), va_P D aj_cl (aj_mW bd d2 d M1 (upd S i (nI 0)) E) H → va_S (aj_In 4 bd) s.heap H locs → ∀ (ls : Array Slot), lv_has ls 4 [(0, .ref (bd 0)), (1, .int (nI i)), (2, .int (S i)), (3, .int z)] → W p l e (aj_rm 0) s m args below meth c H locs 0 0 Q (F0 m 30 ls []) := by
      intro n_30
      induction n_30 with
      | zero =>
        intro j M1 z e_z hj hz hk hfu H locs hP hS ls hl
        exfalso; omega
      | succ n_30 ih_30 =>
        intro j M1 z e_z hj hz hk hfu H locs hP hS ls hl
        subst e_z
        refine lv_iload_n hx hb dX1_clear_30 rfl (lv_at hl 3 rfl) ?_
        refine lv_bipush (v := nI 64) hx hb dX1_clear_31 (by decide) ?_
        refine lv_iload_n hx hb dX1_clear_33 rfl (lv_at hl 1 rfl) ?_
        refine aj_imul hx hb dX1_clear_34 ?_
        refine lv_bipush (v := nI 64) hx hb dX1_clear_35 (by decide) ?_
        refine aj_iadd hx hb dX1_clear_37 ?_
        refine aj_ge (tgt := 54) hx hb (by omega) (by omega) dX1_clear_38 (by decide) (fun c_38 => ?_) (fun c_38 => ?_)
        ·
          refine lv_iload_n hx hb dX1_clear_54 rfl (lv_at hl 2 rfl) ?_
          exact hret (S i) _ _ _ _ dX1_clear_55 hS (⟨rfl, M1, E, aj_MRel_clr hM h1 (fun a9 h9 => hz a9 (by omega)) hk, hP⟩)
        ·
          refine lv_aload_n hx hb dX1_clear_41 rfl (lv_at hl 0 rfl) ?_
          refine va_get (D := D) (ci := 1) (v := .ref (bd 1)) (C := RX1) (T := TX1) (N := 3) hx hb hts in_X1 hown hK hP 0 rfl rfl 0 (by decide) (hts _ q172) (fun _ h9 => h9) rfl dX1_clear_42 ?_
          refine lv_iload_n hx hb dX1_clear_45 rfl (lv_at hl 3 rfl) ?_
          refine lv_iconst (v := nI 0) hx hb dX1_clear_46 (by decide) ?_
          refine aj_zast hx hb hK hP (aj_mD hap) hS 1 1 rfl rfl (by omega) (by decide) rfl dX1_clear_47 (fun H locs hP hS => ?_)
          have hP : va_P D aj_cl (aj_mW bd d2 d (upd M1 (64 * i + j) (nI 0)) (upd S i (nI 0)) E) H := hP
          refine lv_iinc (v := nI (64 * i + j + 1)) (lv' := [(3, .int (nI (64 * i + j + 1))), (0, .ref (bd 0)), (1, .int (nI i)), (2, .int (S i))]) hx hb dX1_clear_48 hl (k := 3) rfl (nI_add (64 * i + j) 1) (by decide) rfl (fun ls hl => ?_)
          refine lv_goto (tgt := 30) hx hb dX1_clear_51 (by decide) ?_
          exact ih_30 (j + 1) (upd M1 (64 * i + j) (nI 0)) (nI (64 * i + j + 1)) rfl (by omega) (by intro k hk9; by_cases e : k = j; (subst e; simp [upd]); have e2 : ¬ 64 * i + k = 64 * i + j := (by omega); simpa [upd, e] using hz k (by omega)) (by intro k hk9; have e : ¬ k = 64 * i + j := (by omega); simpa [upd, e] using hk k hk9) (by omega) _ _ hP hS _ (lv_sub hl [1, 2, 3, 0] rfl)
    exact L_30 65 0 M (nI (64 * i)) rfl (by omega) (by intro k hk9; omega) (fun _ _ => rfl) (by omega) _ _ hP hS _ (lv_sub hl [2, 3, 1, 0] rfl)
  ·
    exfalso; omega

set_option maxHeartbeats 4000000 in
set_option maxRecDepth 100000 in
theorem aj_M_clear_bad (l : Launch) {D : va_G} {bd : Nat → Nat} {d2 d : ClassId} {G : aj_T} {S : Nat → Int32} (hap : aj_Ap 4 bd) {x : Int32} (h1 : aj_out 4 x = true) : aj_MW l yX1_clear cX1_clear 4 .int 0 D [(d, .int), (d2, .boolean)] [.ref (bd 0), .int x] (aj_MM D bd d2 d G S) (aj_PV ((-1)) (aj_MM D bd d2 d G S)) (aj_In 4 bd) := by
  refine aj_rw (Post := aj_PV ((-1)) (aj_MM D bd d2 d G S)) (pre := (aj_MM D bd d2 d G S)) (aj_In 4 bd) RX1 (by decide) rfl (Nat.le_of_ble_eq_true rfl) (fun v H h => aj_nI rfl v) ?_
  intro p e s m args below meth c ls Q F hK hP hl hret
  obtain ⟨hx, hb, hml, hown, hts⟩ := id F
  have hS : va_S (aj_In 4 bd) s.heap s.heap [] := va_S.rf
  have hl : lv_has ls 4 [(0, .ref (bd 0)), (1, .int x)] := hl
  obtain ⟨M, E, hM, hP⟩ := hP
  refine lv_iload_n hx hb dX1_clear_0 rfl (lv_at hl 1 rfl) ?_
  refine lv_if_lt (tgt := 9) hx hb dX1_clear_1 (by decide) (fun c_1 => ?_) (fun c_1 => ?_)
  ·
    refine lv_iconst (v := (-1)) hx hb dX1_clear_9 (by decide) ?_
    exact hret ((-1)) _ _ _ _ dX1_clear_10 hS (⟨rfl, M, E, hM, hP⟩)
  ·
    refine lv_iload_n hx hb dX1_clear_4 rfl (lv_at hl 1 rfl) ?_
    refine lv_iconst (v := nI 3) hx hb dX1_clear_5 (by decide) ?_
    refine lv_icmp_le (tgt := 11) hx hb dX1_clear_6 (by decide) (fun c_6 => ?_) (fun c_6 => ?_)
    ·
      exact absurd c_6 (aj_out_no3 h1 c_1)
    ·
      refine lv_iconst (v := (-1)) hx hb dX1_clear_9 (by decide) ?_
      exact hret ((-1)) _ _ _ _ dX1_clear_10 hS (⟨rfl, M, E, hM, hP⟩)

set_option maxHeartbeats 4000000 in
set_option maxRecDepth 100000 in
theorem aj_M_gain_ok (l : Launch) {D : va_G} {bd : Nat → Nat} {d2 d : ClassId} {G : aj_T} {S : Nat → Int32} (hap : aj_Ap 4 bd) {i a b : Nat} (h1 : i < 4) (h2 : a < 8) (h3 : b < 8) : aj_MW l yX1_gain cX1_gain 6 .int 4 D [(d, .int), (d2, .boolean)] [.ref (bd 0), .int (nI i), .int (nI a), .int (nI b)] (aj_MM D bd d2 d G S) (aj_PV (nI (aj_gmV G i a b)) (aj_MM D bd d2 d G S)) (aj_In 4 bd) := by
  refine aj_rw (Post := aj_PV (nI (aj_gmV G i a b)) (aj_MM D bd d2 d G S)) (pre := (aj_MM D bd d2 d G S)) (aj_In 4 bd) RX1 (by decide) rfl (Nat.le_of_ble_eq_true rfl) (fun v H h => aj_nI rfl v) ?_
  intro p e s m args below meth c ls Q F hK hP hl hret
  obtain ⟨hx, hb, hml, hown, hts⟩ := id F
  have hS : va_S (aj_In 4 bd) s.heap s.heap [] := va_S.rf
  have hl : lv_has ls 6 [(0, .ref (bd 0)), (1, .int (nI i)), (2, .int (nI a)), (3, .int (nI b))] := hl
  obtain ⟨M, E, hM, hP⟩ := hP
  refine lv_aload_n hx hb dX1_gain_0 rfl (lv_at hl 0 rfl) ?_
  refine lv_iload_n hx hb dX1_gain_1 rfl (lv_at hl 1 rfl) ?_
  refine lv_iload_n hx hb dX1_gain_2 rfl (lv_at hl 2 rfl) ?_
  refine lv_iload_n hx hb dX1_gain_3 rfl (lv_at hl 3 rfl) ?_
  refine aj_callR (As := [.int (nI i), .int (nI a), .int (nI b)]) (rest := []) F (aj_isRow l) aj_gX1_X1_isRow aj_hX1_isRow (aj_rmR (by decide) (by decide)) rfl rfl hK hP (va_recv (q0 := 0) hK hP (ci := 1) rfl rfl) rfl hl.1 rfl (Nat.le_of_ble_eq_true rfl) ⟨Nat.zero_le _, Nat.zero_le _⟩ dX1_gain_4 ?_
  refine aj_ifneB (tgt := 12) hx hb dX1_gain_7 (by decide) (fun c_7 => ?_) (fun c_7 => ?_)
  ·
    refine lv_bipush (v := nI 64) hx hb dX1_gain_12 (by decide) ?_
    refine lv_iload_n hx hb dX1_gain_14 rfl (lv_at hl 1 rfl) ?_
    refine aj_imul hx hb dX1_gain_15 ?_
    refine lv_bipush (v := nI 8) hx hb dX1_gain_16 (by decide) ?_
    refine lv_iload_n hx hb dX1_gain_18 rfl (lv_at hl 2 rfl) ?_
    refine aj_imul hx hb dX1_gain_19 ?_
    refine aj_iadd hx hb dX1_gain_20 ?_
    refine lv_iload_n hx hb dX1_gain_21 rfl (lv_at hl 3 rfl) ?_
    refine aj_iadd hx hb dX1_gain_22 ?_
    refine lv_istore (lv' := [(4, .int (nI (((64 * i) + (8 * a)) + b))), (0, .ref (bd 0)), (1, .int (nI i)), (2, .int (nI a)), (3, .int (nI b))]) hx hb dX1_gain_23 hl (by decide) rfl (fun ls hl => ?_)
    refine lv_aload_n hx hb dX1_gain_25 rfl (lv_at hl 1 rfl) ?_
    refine va_get (D := D) (ci := 1) (v := .ref (bd 1)) (C := RX1) (T := TX1) (N := 3) hx hb hts in_X1 hown hK hP 0 rfl rfl 0 (by decide) (hts _ q172) (fun _ h9 => h9) rfl dX1_gain_26 ?_
    refine lv_iload hx hb dX1_gain_29 (lv_at hl 0 rfl) ?_
    refine aj_zald (y := nI ((G i a b).toNat)) hx hb hK hP 1 1 rfl rfl (by omega) (by decide) (hM i a b h1 h2 h3) dX1_gain_31 ?_
    refine aj_ifeqB (tgt := 37) hx hb dX1_gain_32 (by decide) (fun c_32 => ?_) (fun c_32 => ?_)
    ·
      refine lv_aload_n hx hb dX1_gain_37 rfl (lv_at hl 1 rfl) ?_
      refine va_get (D := D) (ci := 1) (v := .ref (bd 1)) (C := RX1) (T := TX1) (N := 3) hx hb hts in_X1 hown hK hP 0 rfl rfl 0 (by decide) (hts _ q172) (fun _ h9 => h9) rfl dX1_gain_38 ?_
      refine lv_iload hx hb dX1_gain_41 (lv_at hl 0 rfl) ?_
      refine lv_iconst (v := nI 1) hx hb dX1_gain_43 (by decide) ?_
      refine aj_zast hx hb hK hP (aj_mD hap) hS 1 1 rfl rfl (by omega) (by decide) rfl dX1_gain_44 (fun H locs hP hS => ?_)
      have hP : va_P D aj_cl (aj_mW bd d2 d (upd M (((64 * i) + (8 * a)) + b) (nI 1)) S E) H := hP
      refine lv_aload_n hx hb dX1_gain_45 rfl (lv_at hl 1 rfl) ?_
      refine lv_iload hx hb dX1_gain_46 (lv_at hl 0 rfl) ?_
      refine aj_callR (As := [.int (nI (((64 * i) + (8 * a)) + b))]) (rest := []) F (aj_countWith l (aj_MRel_set hM h1 h2 h3 true rfl) (by omega)) aj_gX1_X1_countWith aj_hX1_countWith (aj_rmR (by decide) (by decide)) rfl rfl hK hP (va_recv (q0 := 0) hK hP (ci := 1) rfl rfl) rfl hl.1 rfl (Nat.le_of_ble_eq_true rfl) ⟨Nat.zero_le _, Nat.zero_le _⟩ dX1_gain_48 ?_
      refine lv_istore (lv' := [(5, .int (nI (aj_cw (aj_setG G i a b true) (64 * i + 8 * a + b)))), (4, .int (nI (((64 * i) + (8 * a)) + b))), (0, .ref (bd 0)), (1, .int (nI i)), (2, .int (nI a)), (3, .int (nI b))]) hx hb dX1_gain_51 hl (by decide) rfl (fun ls hl => ?_)
      refine lv_aload_n hx hb dX1_gain_53 rfl (lv_at hl 2 rfl) ?_
      refine va_get (D := D) (ci := 1) (v := .ref (bd 1)) (C := RX1) (T := TX1) (N := 3) hx hb hts in_X1 hown hK hP 0 rfl rfl 0 (by decide) (hts _ q172) (fun _ h9 => h9) rfl dX1_gain_54 ?_
      refine lv_iload hx hb dX1_gain_57 (lv_at hl 1 rfl) ?_
      refine lv_iconst (v := nI 0) hx hb dX1_gain_59 (by decide) ?_
      refine aj_zast hx hb hK hP (aj_mD hap) hS 1 1 rfl rfl (by omega) (by decide) rfl dX1_gain_60 (fun H locs hP hS => ?_)
      have hP : va_P D aj_cl (aj_mW bd d2 d (upd (upd M (((64 * i) + (8 * a)) + b) (nI 1)) (((64 * i) + (8 * a)) + b) (nI 0)) S E) H := hP
      refine lv_iload hx hb dX1_gain_61 (lv_at hl 0 rfl) ?_
      exact hret (nI (aj_cw (aj_setG G i a b true) (64 * i + 8 * a + b))) _ _ _ _ dX1_gain_63 hS (⟨by simp [aj_gmV, c_32], _, E, by have h9 := aj_MRel_set (aj_MRel_set hM h1 h2 h3 true rfl) h1 h2 h3 false rfl; rw [aj_setG_back c_32] at h9; exact h9, hP⟩)
    ·
      refine lv_iconst (v := nI 0) hx hb dX1_gain_35 (by decide) ?_
      exact hret (nI 0) _ _ _ _ dX1_gain_36 hS (⟨by simp [aj_gmV, c_32], M, E, hM, hP⟩)
  ·
    rw [aj_isRw_ok h1 h2 h3] at c_7; cases c_7

set_option maxHeartbeats 4000000 in
set_option maxRecDepth 100000 in
theorem aj_M_gain_bad (l : Launch) {D : va_G} {bd : Nat → Nat} {d2 d : ClassId} {G : aj_T} {S : Nat → Int32} (hap : aj_Ap 4 bd) {x y z : Int32} (h1 : aj_bad x y z = true) : aj_MW l yX1_gain cX1_gain 6 .int 4 D [(d, .int), (d2, .boolean)] [.ref (bd 0), .int x, .int y, .int z] (aj_MM D bd d2 d G S) (aj_PV ((-1)) (aj_MM D bd d2 d G S)) (aj_In 4 bd) := by
  refine aj_rw (Post := aj_PV ((-1)) (aj_MM D bd d2 d G S)) (pre := (aj_MM D bd d2 d G S)) (aj_In 4 bd) RX1 (by decide) rfl (Nat.le_of_ble_eq_true rfl) (fun v H h => aj_nI rfl v) ?_
  intro p e s m args below meth c ls Q F hK hP hl hret
  obtain ⟨hx, hb, hml, hown, hts⟩ := id F
  have hS : va_S (aj_In 4 bd) s.heap s.heap [] := va_S.rf
  have hl : lv_has ls 6 [(0, .ref (bd 0)), (1, .int x), (2, .int y), (3, .int z)] := hl
  obtain ⟨M, E, hM, hP⟩ := hP
  refine lv_aload_n hx hb dX1_gain_0 rfl (lv_at hl 0 rfl) ?_
  refine lv_iload_n hx hb dX1_gain_1 rfl (lv_at hl 1 rfl) ?_
  refine lv_iload_n hx hb dX1_gain_2 rfl (lv_at hl 2 rfl) ?_
  refine lv_iload_n hx hb dX1_gain_3 rfl (lv_at hl 3 rfl) ?_
  refine aj_callR (As := [.int x, .int y, .int z]) (rest := []) F (aj_isRow l) aj_gX1_X1_isRow aj_hX1_isRow (aj_rmR (by decide) (by decide)) rfl rfl hK hP (va_recv (q0 := 0) hK hP (ci := 1) rfl rfl) rfl hl.1 rfl (Nat.le_of_ble_eq_true rfl) ⟨Nat.zero_le _, Nat.zero_le _⟩ dX1_gain_4 ?_
  refine aj_ifneB (tgt := 12) hx hb dX1_gain_7 (by decide) (fun c_7 => ?_) (fun c_7 => ?_)
  ·
    rw [aj_isRw_bad h1] at c_7; cases c_7
  ·
    refine lv_iconst (v := (-1)) hx hb dX1_gain_10 (by decide) ?_
    exact hret ((-1)) _ _ _ _ dX1_gain_11 hS (⟨rfl, M, E, hM, hP⟩)

set_option maxHeartbeats 4000000 in
set_option maxRecDepth 100000 in
theorem aj_M_ends (l : Launch) {D : va_G} {bd : Nat → Nat} {d2 d : ClassId} {G : aj_T} {S : Nat → Int32} (hap : aj_Ap 4 bd)  : aj_MW l yX1_ends cX1_ends 4 .int 3 D [(d, .int), (d2, .boolean)] [.ref (bd 0)] (aj_MM D bd d2 d G S) (aj_PV (nI (aj_emV G)) (aj_MM D bd d2 d G S)) (aj_In 4 bd) := by
  refine aj_rw (Post := aj_PV (nI (aj_emV G)) (aj_MM D bd d2 d G S)) (pre := (aj_MM D bd d2 d G S)) (aj_In 4 bd) RX1 (by decide) rfl (Nat.le_of_ble_eq_true rfl) (fun v H h => aj_nI rfl v) ?_
  intro p e s m args below meth c ls Q F hK hP hl hret
  obtain ⟨hx, hb, hml, hown, hts⟩ := id F
  have hS : va_S (aj_In 4 bd) s.heap s.heap [] := va_S.rf
  have hl : lv_has ls 4 [(0, .ref (bd 0))] := hl
  obtain ⟨M, E, hM, hP⟩ := hP
  refine lv_iconst (v := nI 0) hx hb dX1_ends_0 (by decide) ?_
  refine lv_istore_n (lv' := [(1, .int (nI 0)), (0, .ref (bd 0))]) hx hb dX1_ends_1 rfl hl (by decide) rfl (fun ls hl => ?_)
  have L_2 : ∀ (n_2 : Nat), ∀ (i : Nat) (E1 : Nat → Int32), i ≤ 64 → (∀ k, k < i → E1 k = nI 0) → 65 ≤ i + n_2 → ∀ (H : Heap) (locs : List Loc), va_P D aj_cl (aj_mW bd d2 d M S E1) H → va_S (aj_In 4 bd) s.heap H locs → ∀ (ls : Array Slot), lv_has ls 4 [(0, .ref (bd 0)), (1, .int (nI i))] → W p l e (aj_rm 3) s m args below meth c H locs 0 0 Q (F0 m 2 ls []) := by
    intro n_2
    induction n_2 with
    | zero =>
      intro i E1 hi hE1 hfu H locs hP hS ls hl
      exfalso; omega
    | succ n_2 ih_2 =>
      intro i E1 hi hE1 hfu H locs hP hS ls hl
      refine lv_iload_n hx hb dX1_ends_2 rfl (lv_at hl 1 rfl) ?_
      refine lv_bipush (v := nI 64) hx hb dX1_ends_3 (by decide) ?_
      refine aj_ge (tgt := 21) hx hb (by omega) (by decide) dX1_ends_5 (by decide) (fun c_5 => ?_) (fun c_5 => ?_)
      ·
        refine lv_iconst (v := nI 0) hx hb dX1_ends_21 (by decide) ?_
        refine lv_istore_n (lv' := [(1, .int (nI 0)), (0, .ref (bd 0))]) hx hb dX1_ends_22 rfl hl (by decide) rfl (fun ls hl => ?_)
        refine lv_iconst (v := nI 0) hx hb dX1_ends_23 (by decide) ?_
        refine lv_istore_n (lv' := [(2, .int (nI 0)), (1, .int (nI 0)), (0, .ref (bd 0))]) hx hb dX1_ends_24 rfl hl (by decide) rfl (fun ls hl => ?_)
        have L_25 : ∀ (n_25 : Nat), ∀ (n : Nat) (E2 : Nat → Int32) (y : Int32), y = nI (aj_sm (fun k => (aj_sb G n k).toNat) 64) → n ≤ 32768 → (∀ k, k < 64 → E2 k = nI (aj_sb G n k).toNat) → 32769 ≤ n + n_25 → ∀ (H : Heap) (locs : List Loc), va_P D aj_cl (aj_mW bd d2 d M S E2) H → va_S (aj_In 4 bd) s.heap H locs → ∀ (ls : Array Slot), lv_has ls 4 [(0, .ref (bd 0)), (1, .int y), (2, .int (nI n))] → W p l e (aj_rm 3) s m args below meth c H locs 0 0 Q (F0 m 25 ls []) := by
          intro n_25
          induction n_25 with
          | zero =>
            intro n E2 y e_y hn hE2 hfu H locs hP hS ls hl
            exfalso; omega
          | succ n_25 ih_25 =>
            intro n E2 y e_y hn hE2 hfu H locs hP hS ls hl
            subst e_y
            refine lv_iload_n hx hb dX1_ends_25 rfl (lv_at hl 2 rfl) ?_
            refine aj_ldc (n := 32768) hx hb hown (hts _ q211) (by decide) dX1_ends_26 ?_
            refine aj_ge (tgt := 81) hx hb (by omega) (by decide) dX1_ends_28 (by decide) (fun c_28 => ?_) (fun c_28 => ?_)
            ·
              refine lv_iload_n hx hb dX1_ends_81 rfl (lv_at hl 1 rfl) ?_
              exact hret (nI (aj_sm (fun k => (aj_sb G n k).toNat) 64)) _ _ _ _ dX1_ends_82 hS (⟨by rw [show n = 32768 by omega]; rfl, M, _, hM, hP⟩)
            ·
              refine lv_bipush (v := nI 8) hx hb dX1_ends_31 (by decide) ?_
              refine lv_aload_n hx hb dX1_ends_33 rfl (lv_at hl 0 rfl) ?_
              refine lv_iload_n hx hb dX1_ends_34 rfl (lv_at hl 2 rfl) ?_
              refine lv_iconst (v := nI 0) hx hb dX1_ends_35 (by decide) ?_
              refine aj_callR (As := [.int (nI n), .int (nI 0)]) (rest := [.int (nI 8)]) F (aj_valueIn l (by omega) (by decide)) aj_gX1_X1_valueIn aj_hX1_valueIn (aj_rmR (by decide) (by decide)) rfl rfl hK hP (va_recv (q0 := 0) hK hP (ci := 1) rfl rfl) rfl hl.1 rfl (Nat.le_of_ble_eq_true rfl) ⟨Nat.zero_le _, Nat.zero_le _⟩ dX1_ends_36 ?_
              refine aj_imul hx hb dX1_ends_39 ?_
              refine lv_aload_n hx hb dX1_ends_40 rfl (lv_at hl 0 rfl) ?_
              refine lv_iload_n hx hb dX1_ends_41 rfl (lv_at hl 2 rfl) ?_
              refine lv_iconst (v := nI 3) hx hb dX1_ends_42 (by decide) ?_
              refine aj_callR (As := [.int (nI n), .int (nI 3)]) (rest := [.int (nI (8 * (aj_vI n 0)))]) F (aj_valueIn l (by omega) (by decide)) aj_gX1_X1_valueIn aj_hX1_valueIn (aj_rmR (by decide) (by decide)) rfl rfl hK hP (va_recv (q0 := 0) hK hP (ci := 1) rfl rfl) rfl hl.1 rfl (Nat.le_of_ble_eq_true rfl) ⟨Nat.zero_le _, Nat.zero_le _⟩ dX1_ends_43 ?_
              refine aj_iadd hx hb dX1_ends_46 ?_
              refine aj_top (y := nI (aj_pr n)) (rfl) ?_
              refine lv_istore_n (lv' := [(3, .int (nI (aj_pr n))), (0, .ref (bd 0)), (1, .int (nI (aj_sm (fun k => (aj_sb G n k).toNat) 64))), (2, .int (nI n))]) hx hb dX1_ends_47 rfl hl (by decide) rfl (fun ls hl => ?_)
              refine lv_aload_n hx hb dX1_ends_48 rfl (lv_at hl 1 rfl) ?_
              refine va_get (D := D) (ci := 1) (v := .ref (bd 3)) (C := RX1) (T := TX1) (N := 3) hx hb hts in_X1 hown hK hP 0 rfl rfl 2 (by decide) (hts _ q174) (fun _ h9 => h9) rfl dX1_ends_49 ?_
              refine lv_iload_n hx hb dX1_ends_52 rfl (lv_at hl 0 rfl) ?_
              refine aj_zald (y := nI ((aj_sb G n (aj_pr n)).toNat)) hx hb hK hP 3 1 rfl rfl (aj_pr_lt n) (by decide) (hE2 _ (aj_pr_lt n)) dX1_ends_53 ?_
              refine aj_ifneB (tgt := 75) hx hb dX1_ends_54 (by decide) (fun c_54 => ?_) (fun c_54 => ?_)
              ·
                refine lv_iinc (v := nI (n + 1)) (lv' := [(2, .int (nI (n + 1))), (3, .int (nI (aj_pr n))), (0, .ref (bd 0)), (1, .int (nI (aj_sm (fun k => (aj_sb G n k).toNat) 64)))]) hx hb dX1_ends_75 hl (k := 3) rfl (nI_add n 1) (by decide) rfl (fun ls hl => ?_)
                refine lv_goto (tgt := 25) hx hb dX1_ends_78 (by decide) ?_
                exact ih_25 (n + 1) E2 (nI (aj_sm (fun k => (aj_sb G n k).toNat) 64)) (by first | (rw [funext (fun k => congrArg Bool.toNat (aj_sb_skip (Or.inl c_54) k))]) | (rw [funext (fun k => congrArg Bool.toNat (aj_sb_skip (Or.inr c_62) k))]) | (rw [funext (fun k => congrArg Bool.toNat (aj_sb_new c_62 k)), aj_sm_new c_54 64]; simp [aj_pr_lt n])) (by omega) (by intro k hk9; first | (rw [aj_sb_skip (Or.inl c_54)]; exact hE2 k hk9) | (rw [aj_sb_skip (Or.inr c_62)]; exact hE2 k hk9) | (rw [aj_sb_new c_62]; by_cases e : k = aj_pr n; (subst e; simp [upd]); (simpa [upd, e] using hE2 k hk9))) (by omega) _ _ hP hS _ (lv_sub hl [2, 3, 0] rfl)
              ·
                refine lv_aload_n hx hb dX1_ends_57 rfl (lv_at hl 1 rfl) ?_
                refine lv_iload_n hx hb dX1_ends_58 rfl (lv_at hl 3 rfl) ?_
                refine aj_callR (As := [.int (nI n)]) (rest := []) F (aj_isAnswer l hM (by omega)) aj_gX1_X1_isAnswer aj_hX1_isAnswer (aj_rmR (by decide) (by decide)) rfl rfl hK hP (va_recv (q0 := 0) hK hP (ci := 1) rfl rfl) rfl hl.1 rfl (Nat.le_of_ble_eq_true rfl) ⟨Nat.zero_le _, Nat.zero_le _⟩ dX1_ends_59 ?_
                refine aj_ifeqB (tgt := 75) hx hb dX1_ends_62 (by decide) (fun c_62 => ?_) (fun c_62 => ?_)
                ·
                  refine lv_iinc (v := nI (n + 1)) (lv' := [(2, .int (nI (n + 1))), (3, .int (nI (aj_pr n))), (0, .ref (bd 0)), (1, .int (nI (aj_sm (fun k => (aj_sb G n k).toNat) 64)))]) hx hb dX1_ends_75 hl (k := 3) rfl (nI_add n 1) (by decide) rfl (fun ls hl => ?_)
                  refine lv_goto (tgt := 25) hx hb dX1_ends_78 (by decide) ?_
                  exact ih_25 (n + 1) E2 (nI (aj_sm (fun k => (aj_sb G n k).toNat) 64)) (by first | (rw [funext (fun k => congrArg Bool.toNat (aj_sb_skip (Or.inl c_54) k))]) | (rw [funext (fun k => congrArg Bool.toNat (aj_sb_skip (Or.inr c_62) k))]) | (rw [funext (fun k => congrArg Bool.toNat (aj_sb_new c_62 k)), aj_sm_new c_54 64]; simp [aj_pr_lt n])) (by omega) (by intro k hk9; first | (rw [aj_sb_skip (Or.inl c_54)]; exact hE2 k hk9) | (rw [aj_sb_skip (Or.inr c_62)]; exact hE2 k hk9) | (rw [aj_sb_new c_62]; by_cases e : k = aj_pr n; (subst e; simp [upd]); (simpa [upd, e] using hE2 k hk9))) (by omega) _ _ hP hS _ (lv_sub hl [2, 3, 0] rfl)
                ·
                  refine lv_aload_n hx hb dX1_ends_65 rfl (lv_at hl 1 rfl) ?_
                  refine va_get (D := D) (ci := 1) (v := .ref (bd 3)) (C := RX1) (T := TX1) (N := 3) hx hb hts in_X1 hown hK hP 0 rfl rfl 2 (by decide) (hts _ q174) (fun _ h9 => h9) rfl dX1_ends_66 ?_
                  refine lv_iload_n hx hb dX1_ends_69 rfl (lv_at hl 0 rfl) ?_
                  refine lv_iconst (v := nI 1) hx hb dX1_ends_70 (by decide) ?_
                  refine aj_zast hx hb hK hP (aj_mD hap) hS 3 1 rfl rfl (aj_pr_lt n) (by decide) rfl dX1_ends_71 (fun H locs hP hS => ?_)
                  have hP : va_P D aj_cl (aj_mW bd d2 d M S (upd E2 (aj_pr n) (nI 1))) H := hP
                  refine lv_iinc (v := nI (aj_sm (fun k => (aj_sb G n k).toNat) 64 + 1)) (lv' := [(1, .int (nI (aj_sm (fun k => (aj_sb G n k).toNat) 64 + 1))), (3, .int (nI (aj_pr n))), (0, .ref (bd 0)), (2, .int (nI n))]) hx hb dX1_ends_72 hl (k := 2) rfl (nI_add (aj_sm (fun k => (aj_sb G n k).toNat) 64) 1) (by decide) rfl (fun ls hl => ?_)
                  refine lv_iinc (v := nI (n + 1)) (lv' := [(2, .int (nI (n + 1))), (1, .int (nI (aj_sm (fun k => (aj_sb G n k).toNat) 64 + 1))), (3, .int (nI (aj_pr n))), (0, .ref (bd 0))]) hx hb dX1_ends_75 hl (k := 3) rfl (nI_add n 1) (by decide) rfl (fun ls hl => ?_)
                  refine lv_goto (tgt := 25) hx hb dX1_ends_78 (by decide) ?_
                  exact ih_25 (n + 1) (upd E2 (aj_pr n) (nI 1)) (nI (aj_sm (fun k => (aj_sb G n k).toNat) 64 + 1)) (by first | (rw [funext (fun k => congrArg Bool.toNat (aj_sb_skip (Or.inl c_54) k))]) | (rw [funext (fun k => congrArg Bool.toNat (aj_sb_skip (Or.inr c_62) k))]) | (rw [funext (fun k => congrArg Bool.toNat (aj_sb_new c_62 k)), aj_sm_new c_54 64]; simp [aj_pr_lt n])) (by omega) (by intro k hk9; first | (rw [aj_sb_skip (Or.inl c_54)]; exact hE2 k hk9) | (rw [aj_sb_skip (Or.inr c_62)]; exact hE2 k hk9) | (rw [aj_sb_new c_62]; by_cases e : k = aj_pr n; (subst e; simp [upd]); (simpa [upd, e] using hE2 k hk9))) (by omega) _ _ hP hS _ (lv_sub hl [3, 1, 0] rfl)
        exact L_25 32769 0 E1 (nI 0) (by show nI 0 = nI (aj_sm (fun k => 0) 64); rw [aj_sm_zero]) (by omega) (by intro k hk9; exact hE1 k (by omega)) (by omega) _ _ hP hS _ (lv_sub hl [2, 1, 0] rfl)
      ·
        refine lv_aload_n hx hb dX1_ends_8 rfl (lv_at hl 0 rfl) ?_
        refine va_get (D := D) (ci := 1) (v := .ref (bd 3)) (C := RX1) (T := TX1) (N := 3) hx hb hts in_X1 hown hK hP 0 rfl rfl 2 (by decide) (hts _ q174) (fun _ h9 => h9) rfl dX1_ends_9 ?_
        refine lv_iload_n hx hb dX1_ends_12 rfl (lv_at hl 1 rfl) ?_
        refine lv_iconst (v := nI 0) hx hb dX1_ends_13 (by decide) ?_
        refine aj_zast hx hb hK hP (aj_mD hap) hS 3 1 rfl rfl (by omega) (by decide) rfl dX1_ends_14 (fun H locs hP hS => ?_)
        have hP : va_P D aj_cl (aj_mW bd d2 d M S (upd E1 i (nI 0))) H := hP
        refine lv_iinc (v := nI (i + 1)) (lv' := [(1, .int (nI (i + 1))), (0, .ref (bd 0))]) hx hb dX1_ends_15 hl (k := 1) rfl (nI_add i 1) (by decide) rfl (fun ls hl => ?_)
        refine lv_goto (tgt := 2) hx hb dX1_ends_18 (by decide) ?_
        exact ih_2 (i + 1) (upd E1 i (nI 0)) (by omega) (by intro k hk9; by_cases e : k = i; (subst e; simp [upd]); simpa [upd, e] using hE1 k (by omega)) (by omega) _ _ hP hS _ (lv_sub hl [1, 0] rfl)
  exact L_2 65 0 E (by omega) (by intro k hk9; omega) (by omega) _ _ hP hS _ (lv_sub hl [1, 0] rfl)

end
end
section
/-! the plain law: the sums over all combinations against the component's numbers -/
section
theorem aj_sm_app (f : Nat → Nat) (a : Nat) : ∀ b, aj_sm f (a + b) = aj_sm f a + aj_sm (fun j => f (a + j)) b
  | 0 => by simp [aj_sm]
  | b + 1 => by
    show aj_sm f (a + b) + f (a + b) = _
    rw [aj_sm_app f a b, aj_sm_s, Nat.add_assoc]
/-- by eights -/
theorem aj_sm_8 (f : Nat → Nat) : ∀ m, aj_sm f (8 * m) = aj_sm (fun i => aj_sm (fun j => f (8 * i + j)) 8) m
  | 0 => rfl
  | m + 1 => by
    rw [Nat.mul_add, Nat.mul_one, aj_sm_app, aj_sm_8 f m]
    rfl
def aj_S5 (X : Nat → Nat → Nat → Nat → Nat → Nat) : Nat := aj_sm (fun v => aj_sm (fun q => aj_sm (fun r => aj_sm (fun s => aj_sm (fun t => X v q r s t) 8) 8) 8) 8) 8
def aj_nn (v q r s t : Nat) : Nat := 8 * (8 * (8 * (8 * v + q) + r) + s) + t
theorem aj_sm5 (f : Nat → Nat) : aj_sm f 32768 = aj_S5 (fun v q r s t => f (aj_nn v q r s t)) := by
  rw [show 32768 = 8 * 4096 from rfl, aj_sm_8, show 4096 = 8 * 512 from rfl, aj_sm_8, show 512 = 8 * 64 from rfl, aj_sm_8, show 64 = 8 * 8 from rfl, aj_sm_8]
  rfl
theorem aj_S5_congr {X Y : Nat → Nat → Nat → Nat → Nat → Nat} (h : ∀ v q r s t, v < 8 → q < 8 → r < 8 → s < 8 → t < 8 → X v q r s t = Y v q r s t) : aj_S5 X = aj_S5 Y :=
  aj_sm_congr 8 (fun v hv => aj_sm_congr 8 (fun q hq => aj_sm_congr 8 (fun r hr => aj_sm_congr 8 (fun s hs => aj_sm_congr 8 (fun t ht => h v q r s t hv hq hr hs ht)))))
theorem aj_toNat_and (a b : Bool) : (a && b).toNat = a.toNat * b.toNat := by cases a <;> cases b <;> rfl
/-- one combination's weight: 1 if it is an answer -/
def aj_w (G : aj_T) (v q r s t : Nat) : Nat := (G 0 v q).toNat * ((G 1 q r).toNat * ((G 2 r s).toNat * (G 3 q t).toNat))
theorem aj_isA_nn (G : aj_T) {v q r s t : Nat} (hv : v < 8) (hq : q < 8) (hr : r < 8) (hs : s < 8) (ht : t < 8) : aj_isA G (aj_nn v q r s t) = (G 1 q r && (G 0 v q && (G 2 r s && G 3 q t))) := by
  unfold aj_isA aj_nn
  rw [show (8 * (8 * (8 * (8 * v + q) + r) + s) + t) / 512 % 8 = q by omega, show (8 * (8 * (8 * (8 * v + q) + r) + s) + t) / 64 % 8 = r by omega, show (8 * (8 * (8 * (8 * v + q) + r) + s) + t) / 4096 = v by omega, show (8 * (8 * (8 * (8 * v + q) + r) + s) + t) / 8 % 8 = s by omega, show (8 * (8 * (8 * (8 * v + q) + r) + s) + t) % 8 = t by omega]
theorem aj_vI_nn {v q r s t : Nat} (hv : v < 8) (hq : q < 8) (hr : r < 8) (hs : s < 8) (ht : t < 8) : aj_vI (aj_nn v q r s t) 0 = v ∧ aj_vI (aj_nn v q r s t) 1 = q ∧ aj_vI (aj_nn v q r s t) 2 = r ∧ aj_vI (aj_nn v q r s t) 3 = s ∧ aj_vI (aj_nn v q r s t) 4 = t := by
  rw [aj_v0, aj_v1, aj_v2, aj_v3, aj_v4]
  unfold aj_nn
  omega
theorem aj_a1_nn (G : aj_T) {v q r s t : Nat} (hv : v < 8) (hq : q < 8) (hr : r < 8) (hs : s < 8) (ht : t < 8) : aj_a1 G (aj_nn v q r s t) = aj_w G v q r s t := by
  unfold aj_a1 aj_w
  rw [aj_isA_nn G hv hq hr hs ht, aj_toNat_and, aj_toNat_and, aj_toNat_and]
  ac_rfl
theorem aj_w_t (G : aj_T) (c v q r s : Nat) : aj_sm (fun t => c * aj_w G v q r s t) 8 = (c * ((G 0 v q).toNat * ((G 1 q r).toNat * (G 2 r s).toNat))) * aj_cT G q := by
  show _ = _ * aj_sm (fun b => (G 3 q b).toNat) 8
  rw [← aj_sm_mul]
  exact aj_sm_congr 8 (fun t _ => by unfold aj_w; ac_rfl)
theorem aj_L01 (G : aj_T) (F : Nat → Nat → Nat) : aj_S5 (fun v q r s t => F v q * aj_w G v q r s t) = aj_sm (fun v => aj_sm (fun q => F v q * ((G 0 v q).toNat * aj_sh G 0 v q)) 8) 8 := by
  unfold aj_S5
  simp only [aj_w_t]
  have e2 : ∀ v q r, aj_sm (fun s => (F v q * ((G 0 v q).toNat * ((G 1 q r).toNat * (G 2 r s).toNat))) * aj_cT G q) 8 = (F v q * (G 0 v q).toNat * aj_cT G q) * ((G 1 q r).toNat * aj_cR G r) := by
    intro v q r
    show _ = _ * (_ * aj_sm (fun b => (G 2 r b).toNat) 8)
    rw [← Nat.mul_assoc, ← aj_sm_mul]
    exact aj_sm_congr 8 (fun t _ => by ac_rfl)
  simp only [e2]
  have e3 : ∀ v q, aj_sm (fun r => (F v q * (G 0 v q).toNat * aj_cT G q) * ((G 1 q r).toNat * aj_cR G r)) 8 = F v q * ((G 0 v q).toNat * aj_sh G 0 v q) := by
    intro v q
    rw [aj_sm_mul]
    show _ * aj_cQ G q = F v q * ((G 0 v q).toNat * (aj_cQ G q * aj_cT G q))
    ac_rfl
  simp only [e3]
theorem aj_L12 (G : aj_T) (F : Nat → Nat → Nat) : aj_S5 (fun v q r s t => F q r * aj_w G v q r s t) = aj_sm (fun q => aj_sm (fun r => F q r * ((G 1 q r).toNat * aj_sh G 1 q r)) 8) 8 := by
  unfold aj_S5
  simp only [aj_w_t]
  have e2 : ∀ v q r, aj_sm (fun s => (F q r * ((G 0 v q).toNat * ((G 1 q r).toNat * (G 2 r s).toNat))) * aj_cT G q) 8 = (F q r * (G 1 q r).toNat * aj_cT G q * aj_cR G r) * (G 0 v q).toNat := by
    intro v q r
    rw [show (F q r * (G 1 q r).toNat * aj_cT G q * aj_cR G r) * (G 0 v q).toNat = (F q r * (G 1 q r).toNat * aj_cT G q * (G 0 v q).toNat) * aj_sm (fun b => (G 2 r b).toNat) 8 from by show _ * aj_cR G r * _ = _ * aj_cR G r; ac_rfl]
    rw [← aj_sm_mul]
    exact aj_sm_congr 8 (fun t _ => by ac_rfl)
  simp only [e2]
  rw [aj_sm_swap]
  refine aj_sm_congr 8 (fun q _ => ?_)
  rw [aj_sm_swap]
  refine aj_sm_congr 8 (fun r _ => ?_)
  rw [aj_sm_mul]
  show _ * aj_uQ G q = F q r * ((G 1 q r).toNat * (aj_uQ G q * aj_cT G q * aj_cR G r))
  ac_rfl
theorem aj_L23 (G : aj_T) (F : Nat → Nat → Nat) : aj_S5 (fun v q r s t => F r s * aj_w G v q r s t) = aj_sm (fun r => aj_sm (fun s => F r s * ((G 2 r s).toNat * aj_sh G 2 r s)) 8) 8 := by
  unfold aj_S5
  simp only [aj_w_t]
  rw [aj_sm_swap]
  have e1 : ∀ q, aj_sm (fun v => aj_sm (fun r => aj_sm (fun s => (F r s * ((G 0 v q).toNat * ((G 1 q r).toNat * (G 2 r s).toNat))) * aj_cT G q) 8) 8) 8 = aj_sm (fun r => aj_sm (fun s => (F r s * (G 2 r s).toNat) * ((G 1 q r).toNat * (aj_uQ G q * aj_cT G q))) 8) 8 := by
    intro q
    rw [aj_sm_swap]
    refine aj_sm_congr 8 (fun r _ => ?_)
    rw [aj_sm_swap]
    refine aj_sm_congr 8 (fun s _ => ?_)
    rw [show (F r s * (G 2 r s).toNat) * ((G 1 q r).toNat * (aj_uQ G q * aj_cT G q)) = (F r s * (G 2 r s).toNat * (G 1 q r).toNat * aj_cT G q) * aj_sm (fun b => (G 0 b q).toNat) 8 from by show _ * (_ * (aj_uQ G q * _)) = _ * aj_uQ G q; ac_rfl]
    rw [← aj_sm_mul]
    exact aj_sm_congr 8 (fun t _ => by ac_rfl)
  simp only [e1]
  rw [aj_sm_swap]
  refine aj_sm_congr 8 (fun r _ => ?_)
  rw [aj_sm_swap]
  refine aj_sm_congr 8 (fun s _ => ?_)
  rw [aj_sm_mul]
  show _ * aj_uR G r = F r s * ((G 2 r s).toNat * aj_uR G r)
  ac_rfl
theorem aj_L14 (G : aj_T) (F : Nat → Nat → Nat) : aj_S5 (fun v q r s t => F q t * aj_w G v q r s t) = aj_sm (fun q => aj_sm (fun t => F q t * ((G 3 q t).toNat * aj_sh G 3 q t)) 8) 8 := by
  unfold aj_S5
  rw [aj_sm_swap]
  refine aj_sm_congr 8 (fun q _ => ?_)
  have e1 : ∀ v r, aj_sm (fun s => aj_sm (fun t => F q t * aj_w G v q r s t) 8) 8 = aj_sm (fun t => (F q t * (G 3 q t).toNat) * ((G 0 v q).toNat * ((G 1 q r).toNat * aj_cR G r))) 8 := by
    intro v r
    rw [aj_sm_swap]
    refine aj_sm_congr 8 (fun t _ => ?_)
    rw [show (F q t * (G 3 q t).toNat) * ((G 0 v q).toNat * ((G 1 q r).toNat * aj_cR G r)) = (F q t * (G 3 q t).toNat * (G 0 v q).toNat * (G 1 q r).toNat) * aj_sm (fun b => (G 2 r b).toNat) 8 from by show _ * (_ * (_ * aj_cR G r)) = _ * aj_cR G r; ac_rfl]
    rw [← aj_sm_mul]
    exact aj_sm_congr 8 (fun s _ => by unfold aj_w; ac_rfl)
  simp only [e1]
  have e2 : ∀ v, aj_sm (fun r => aj_sm (fun t => (F q t * (G 3 q t).toNat) * ((G 0 v q).toNat * ((G 1 q r).toNat * aj_cR G r))) 8) 8 = aj_sm (fun t => (F q t * (G 3 q t).toNat * aj_cQ G q) * (G 0 v q).toNat) 8 := by
    intro v
    rw [aj_sm_swap]
    refine aj_sm_congr 8 (fun t _ => ?_)
    rw [show (F q t * (G 3 q t).toNat * aj_cQ G q) * (G 0 v q).toNat = (F q t * (G 3 q t).toNat * (G 0 v q).toNat) * aj_sm (fun r => (G 1 q r).toNat * aj_cR G r) 8 from by show _ * aj_cQ G q * _ = _ * aj_cQ G q; ac_rfl]
    rw [← aj_sm_mul]
    exact aj_sm_congr 8 (fun s _ => by ac_rfl)
  simp only [e2]
  rw [aj_sm_swap]
  refine aj_sm_congr 8 (fun t _ => ?_)
  rw [aj_sm_mul]
  show _ * aj_uQ G q = F q t * ((G 3 q t).toNat * (aj_uQ G q * aj_cQ G q))
  ac_rfl
/-- a sum with one value picked -/
theorem aj_pick (f : Nat → Nat) (a : Nat) : ∀ n, aj_sm (fun x => (decide (x = a)).toNat * f x) n = (decide (a < n)).toNat * f a
  | 0 => by simp [aj_sm]
  | n + 1 => by
    rw [aj_sm_s, aj_pick f a n]
    by_cases e : n = a
    · subst e
      simp
    · have e2 : (a < n + 1) = (a < n) := propext ⟨fun _ => by omega, fun _ => by omega⟩
      simp [e, e2]
theorem aj_pick8 (f : Nat → Nat) {a : Nat} (h : a < 8) : aj_sm (fun x => (decide (x = a)).toNat * f x) 8 = f a := by
  rw [aj_pick, decide_eq_true h]
  simp
theorem aj_pick2 (f : Nat → Nat → Nat) {a b : Nat} (ha : a < 8) (hb : b < 8) : aj_sm (fun x => aj_sm (fun y => ((decide (x = a)).toNat * (decide (y = b)).toNat) * f x y) 8) 8 = f a b := by
  have e1 : ∀ x, aj_sm (fun y => ((decide (x = a)).toNat * (decide (y = b)).toNat) * f x y) 8 = (decide (x = a)).toNat * f x b := by
    intro x
    rw [← aj_pick8 (fun y => f x y) hb, ← aj_sm_mul]
    exact aj_sm_congr 8 (fun y _ => by ac_rfl)
  simp only [e1]
  exact aj_pick8 (fun x => f x b) ha
/-- count -/
theorem aj_E_count (G : aj_T) : aj_cnt G = aj_sm (aj_a1 G) 32768 := by
  rw [aj_sm5, aj_S5_congr (Y := fun v q r s t => (fun _ _ => 1) v q * aj_w G v q r s t) (fun v q r s t hv hq hr hs ht => by rw [aj_a1_nn G hv hq hr hs ht, Nat.one_mul]), aj_L01, aj_cnt_row]
  refine aj_sm_congr 8 (fun v _ => ?_)
  show aj_sm (fun b => (G 0 v b).toNat * (1 * aj_be G b)) 8 = aj_sm (fun q => 1 * ((G 0 v q).toNat * aj_be G q)) 8
  simp only [Nat.one_mul]
theorem aj_dec2 {a b c d : Nat} (h1 : a < 8) (h2 : b < 8) (h3 : c < 8) (h4 : d < 8) (k : Nat) : (decide (k + 8 * a + b = k + 8 * c + d)).toNat = (decide (a = c)).toNat * (decide (b = d)).toNat := by
  by_cases e1 : a = c
  · by_cases e2 : b = d
    · simp [e1, e2]
    · simp [e1, e2]
  · have : ¬ k + 8 * a + b = k + 8 * c + d := by omega
    simp [e1, this]
/-- countWith -/
theorem aj_E_cw (G : aj_T) {i a b : Nat} (hi : i < 4) (ha : a < 8) (hb : b < 8) : aj_cw G (64 * i + 8 * a + b) = (G i a b).toNat * aj_sh G i a b := by
  have hd : (64 * i + 8 * a + b) / 64 = i := by omega
  unfold aj_cw
  rw [aj_sm5]
  match i, hi, hd with
  | 0, _, hd =>
    rw [aj_S5_congr (Y := fun v q r s t => ((decide (v = a)).toNat * (decide (q = b)).toNat) * aj_w G v q r s t) (fun v q r s t hv hq hr hs ht => ?_), aj_L01]
    · exact aj_pick2 (fun x y => (G 0 x y).toNat * aj_sh G 0 x y) ha hb
    · obtain ⟨e0, e1, e2, e3, e4⟩ := aj_vI_nn hv hq hr hs ht
      unfold aj_cw1
      rw [hd, aj_toNat_and, ← aj_dec2 hv hq ha hb (64 * 0), ← aj_a1_nn G hv hq hr hs ht, Nat.mul_comm]
      congr 3
      show (8 * aj_vI _ 0 + aj_vI _ 1 = _) = _
      simp only [e0, e1, Nat.mul_zero, Nat.zero_add]
  | 1, _, hd =>
    rw [aj_S5_congr (Y := fun v q r s t => ((decide (q = a)).toNat * (decide (r = b)).toNat) * aj_w G v q r s t) (fun v q r s t hv hq hr hs ht => ?_), aj_L12 G (fun x y => (decide (x = a)).toNat * (decide (y = b)).toNat)]
    · exact aj_pick2 (fun x y => (G 1 x y).toNat * aj_sh G 1 x y) ha hb
    · obtain ⟨e0, e1, e2, e3, e4⟩ := aj_vI_nn hv hq hr hs ht
      unfold aj_cw1
      rw [hd, aj_toNat_and, ← aj_dec2 hq hr ha hb (64 * 1), ← aj_a1_nn G hv hq hr hs ht, Nat.mul_comm]
      congr 3
      show (64 + 8 * aj_vI _ 1 + aj_vI _ 2 = _) = _
      rw [e1, e2]
  | 2, _, hd =>
    rw [aj_S5_congr (Y := fun v q r s t => ((decide (r = a)).toNat * (decide (s = b)).toNat) * aj_w G v q r s t) (fun v q r s t hv hq hr hs ht => ?_), aj_L23 G (fun x y => (decide (x = a)).toNat * (decide (y = b)).toNat)]
    · exact aj_pick2 (fun x y => (G 2 x y).toNat * aj_sh G 2 x y) ha hb
    · obtain ⟨e0, e1, e2, e3, e4⟩ := aj_vI_nn hv hq hr hs ht
      unfold aj_cw1
      rw [hd, aj_toNat_and, ← aj_dec2 hr hs ha hb (64 * 2), ← aj_a1_nn G hv hq hr hs ht, Nat.mul_comm]
      congr 3
      show (128 + 8 * aj_vI _ 2 + aj_vI _ 3 = _) = _
      rw [e2, e3]
  | 3, _, hd =>
    rw [aj_S5_congr (Y := fun v q r s t => ((decide (q = a)).toNat * (decide (t = b)).toNat) * aj_w G v q r s t) (fun v q r s t hv hq hr hs ht => ?_), aj_L14 G (fun x y => (decide (x = a)).toNat * (decide (y = b)).toNat)]
    · exact aj_pick2 (fun x y => (G 3 x y).toNat * aj_sh G 3 x y) ha hb
    · obtain ⟨e0, e1, e2, e3, e4⟩ := aj_vI_nn hv hq hr hs ht
      unfold aj_cw1
      rw [hd, aj_toNat_and, ← aj_dec2 hq ht ha hb (64 * 3), ← aj_a1_nn G hv hq hr hs ht, Nat.mul_comm]
      congr 3
      show (192 + 8 * aj_vI _ 1 + aj_vI _ 4 = _) = _
      rw [e1, e4]
end
end
section
/-! the plain law 2: columns, rows, ranks, ends -/
section
theorem aj_pickL (f : Nat → Nat → Nat) {a : Nat} (ha : a < 8) : aj_sm (fun x => aj_sm (fun y => (decide (x = a)).toNat * f x y) 8) 8 = aj_sm (fun y => f a y) 8 := by
  have e1 : ∀ x, aj_sm (fun y => (decide (x = a)).toNat * f x y) 8 = (decide (x = a)).toNat * aj_sm (fun y => f x y) 8 := fun x => aj_sm_mul _ _ 8
  simp only [e1]
  exact aj_pick8 (fun x => aj_sm (fun y => f x y) 8) ha
theorem aj_pickR (f : Nat → Nat → Nat) {b : Nat} (hb : b < 8) : aj_sm (fun x => aj_sm (fun y => (decide (y = b)).toNat * f x y) 8) 8 = aj_sm (fun x => f x b) 8 :=
  aj_sm_congr 8 (fun x _ => aj_pick8 (fun y => f x y) hb)
/-- with -/
theorem aj_E_col (G : aj_T) {k v : Nat} (hk : k < 5) (hv : v < 8) : aj_col G k v = aj_cv G k v := by
  unfold aj_cv
  rw [aj_sm5]
  match k, hk with
  | 0, _ =>
    rw [aj_S5_congr (Y := fun v' q r s t => (decide (v' = v)).toNat * aj_w G v' q r s t) (fun v' q r s t hv' hq hr hs ht => ?_), aj_L01 G (fun x _ => (decide (x = v)).toNat), aj_pickL (fun x y => (G 0 x y).toNat * aj_sh G 0 x y) hv]
    · rfl
    · unfold aj_cv1
      rw [aj_toNat_and, (aj_vI_nn hv' hq hr hs ht).1, ← aj_a1_nn G hv' hq hr hs ht]
      rfl
  | 1, _ =>
    rw [aj_S5_congr (Y := fun v' q r s t => (decide (q = v)).toNat * aj_w G v' q r s t) (fun v' q r s t hv' hq hr hs ht => ?_), aj_L01 G (fun _ y => (decide (y = v)).toNat), aj_pickR (fun x y => (G 0 x y).toNat * aj_sh G 0 x y) hv]
    · rfl
    · unfold aj_cv1
      rw [aj_toNat_and, (aj_vI_nn hv' hq hr hs ht).2.1, ← aj_a1_nn G hv' hq hr hs ht]
      rfl
  | 2, _ =>
    rw [aj_S5_congr (Y := fun v' q r s t => (decide (r = v)).toNat * aj_w G v' q r s t) (fun v' q r s t hv' hq hr hs ht => ?_), aj_L12 G (fun _ y => (decide (y = v)).toNat), aj_pickR (fun x y => (G 1 x y).toNat * aj_sh G 1 x y) hv]
    · rfl
    · unfold aj_cv1
      rw [aj_toNat_and, (aj_vI_nn hv' hq hr hs ht).2.2.1, ← aj_a1_nn G hv' hq hr hs ht]
      rfl
  | 3, _ =>
    rw [aj_S5_congr (Y := fun v' q r s t => (decide (s = v)).toNat * aj_w G v' q r s t) (fun v' q r s t hv' hq hr hs ht => ?_), aj_L23 G (fun _ y => (decide (y = v)).toNat), aj_pickR (fun x y => (G 2 x y).toNat * aj_sh G 2 x y) hv]
    · rfl
    · unfold aj_cv1
      rw [aj_toNat_and, (aj_vI_nn hv' hq hr hs ht).2.2.2.1, ← aj_a1_nn G hv' hq hr hs ht]
      rfl
  | 4, _ =>
    rw [aj_S5_congr (Y := fun v' q r s t => (decide (t = v)).toNat * aj_w G v' q r s t) (fun v' q r s t hv' hq hr hs ht => ?_), aj_L14 G (fun _ y => (decide (y = v)).toNat), aj_pickR (fun x y => (G 3 x y).toNat * aj_sh G 3 x y) hv]
    · rfl
    · unfold aj_cv1
      rw [aj_toNat_and, (aj_vI_nn hv' hq hr hs ht).2.2.2.2, ← aj_a1_nn G hv' hq hr hs ht]
      rfl
theorem aj_E_values (G : aj_T) {k : Nat} (hk : k < 5) : aj_vaV G k = aj_vmV G k :=
  aj_sm_congr 8 (fun v hv => by unfold aj_va1 aj_vm1; rw [aj_E_col G hk hv])
theorem aj_E_weight (G : aj_T) {i a b : Nat} (hi : i < 4) (ha : a < 8) (hb : b < 8) : aj_weV G i a b = aj_cw G (64 * i + 8 * a + b) := by
  rw [aj_E_cw G hi ha hb]
  unfold aj_weV
  cases G i a b <;> simp
theorem aj_sh_set (G : aj_T) {i a b : Nat} (hi : i < 4) : aj_sh (aj_setG G i a b true) i a b = aj_sh G i a b := by
  match i, hi with
  | 0, _ => simp [aj_sh, aj_be, aj_cQ, aj_cR, aj_cT, aj_setG]
  | 1, _ => simp [aj_sh, aj_uQ, aj_cR, aj_cT, aj_setG]
  | 2, _ => simp [aj_sh, aj_uR, aj_uQ, aj_cT, aj_setG]
  | 3, _ => simp [aj_sh, aj_uQ, aj_cQ, aj_cR, aj_setG]
theorem aj_E_gain (G : aj_T) {i a b : Nat} (hi : i < 4) (ha : a < 8) (hb : b < 8) : aj_gaV G i a b = aj_gmV G i a b := by
  unfold aj_gaV aj_gmV
  rw [aj_E_cw _ hi ha hb, aj_sh_set G hi]
  simp [aj_setG]
theorem aj_E_useful (G : aj_T) {i : Nat} (hi : i < 4) : aj_usV G i = aj_umV G i := by
  unfold aj_umV aj_usV
  rw [show 64 = 8 * 8 from rfl, aj_sm_8]
  refine aj_sm_congr 8 (fun a ha => aj_sm_congr 8 (fun b hb => ?_))
  unfold aj_us2 aj_um1
  rw [show (8 * a + b) / 8 = a by omega, show (8 * a + b) % 8 = b by omega, show 8 * 8 * i + (8 * a + b) = 64 * i + 8 * a + b by omega, aj_E_cw G hi ha hb]
  cases G i a b <;> simp
theorem aj_S5_add (X Y : Nat → Nat → Nat → Nat → Nat → Nat) : aj_S5 (fun v q r s t => X v q r s t + Y v q r s t) = aj_S5 X + aj_S5 Y := by
  unfold aj_S5
  simp only [aj_sm_add]
theorem aj_E_sum (G : aj_T) : aj_suV G = aj_smV G := by
  unfold aj_smV aj_suV
  rw [aj_sm5, aj_S5_congr (Y := fun v q r s t => s * aj_w G v q r s t + t * aj_w G v q r s t) (fun v q r s t hv hq hr hs ht => ?_), aj_S5_add, aj_L23 G (fun _ s => s), aj_L14 G (fun _ t => t), aj_sm_swap, aj_sm_swap (fun q t => t * ((G 3 q t).toNat * aj_sh G 3 q t)), ← aj_sm_add]
  · refine aj_sm_congr 8 (fun v hv => ?_)
    rw [aj_sm_mul, aj_sm_mul, ← Nat.mul_add]
    rfl
  · unfold aj_sm1
    rw [(aj_vI_nn hv hq hr hs ht).2.2.2.1, (aj_vI_nn hv hq hr hs ht).2.2.2.2, ← aj_a1_nn G hv hq hr hs ht, ← Nat.add_mul, Nat.mul_comm]
    rfl
/-- how many answers come before a combination -/
theorem aj_pre (G : aj_T) {v q r s t : Nat} (hv : v < 8) (hq : q < 8) (hr : r < 8) (hs : s < 8) (ht : t < 8) : aj_sm (aj_a1 G) (aj_nn v q r s t) = aj_sm (aj_row0 G) v + aj_sm (aj_st G 0 v 1 0) q + (G 0 v q).toNat * (aj_sm (aj_st G 1 q (aj_cT G q) 1) r + (G 1 q r).toNat * (aj_sm (aj_st G 2 r (aj_cT G q) 2) s + (G 2 r s).toNat * aj_sm (aj_st G 3 q 1 2) t)) := by
  have e0 : ∀ v q r s, v < 8 → q < 8 → r < 8 → s < 8 → aj_sm (fun j => aj_a1 G (8 * (8 * (8 * (8 * v + q) + r) + s) + j)) 8 = (G 0 v q).toNat * ((G 1 q r).toNat * aj_st G 2 r (aj_cT G q) 2 s) := by
    intro v q r s hv hq hr hs
    rw [aj_sm_congr 8 (g := fun t => 1 * aj_w G v q r s t) (fun t ht => by rw [Nat.one_mul]; exact aj_a1_nn G hv hq hr hs ht), aj_w_t]
    show _ = (G 0 v q).toNat * ((G 1 q r).toNat * ((G 2 r s).toNat * (aj_cT G q * 1)))
    rw [Nat.one_mul, Nat.mul_one]
    ac_rfl
  have e1 : ∀ v q r, v < 8 → q < 8 → r < 8 → aj_sm (fun s => aj_sm (fun j => aj_a1 G (8 * (8 * (8 * (8 * v + q) + r) + s) + j)) 8) 8 = (G 0 v q).toNat * aj_st G 1 q (aj_cT G q) 1 r := by
    intro v q r hv hq hr
    rw [aj_sm_congr 8 (fun s hs => e0 v q r s hv hq hr hs), aj_sm_mul, aj_sm_mul, aj_st2_8]
    rfl
  have e2 : ∀ v q, v < 8 → q < 8 → aj_sm (fun r => aj_sm (fun s => aj_sm (fun j => aj_a1 G (8 * (8 * (8 * (8 * v + q) + r) + s) + j)) 8) 8) 8 = aj_st G 0 v 1 0 q := by
    intro v q hv hq
    rw [aj_sm_congr 8 (fun r hr => e1 v q r hv hq hr), aj_sm_mul, aj_st1_8]
    show _ = (G 0 v q).toNat * (1 * aj_be G q)
    rw [Nat.one_mul]
  have e3 : ∀ v, v < 8 → aj_sm (fun q => aj_sm (fun r => aj_sm (fun s => aj_sm (fun j => aj_a1 G (8 * (8 * (8 * (8 * v + q) + r) + s) + j)) 8) 8) 8) 8 = aj_row0 G v := by
    intro v hv
    exact aj_sm_congr 8 (fun q hq => e2 v q hv hq)
  unfold aj_nn
  rw [aj_sm_app, aj_sm_8, aj_sm_app, aj_sm_8, aj_sm_app, aj_sm_8, aj_sm_app, aj_sm_8]
  rw [aj_sm_congr v (fun j hj => e3 j (by omega)), aj_sm_congr q (fun j hj => e2 v j hv (by omega)), aj_sm_congr r (fun j hj => e1 v q j hv hq (by omega)), aj_sm_congr s (fun j hj => e0 v q r j hv hq hr (by omega))]
  rw [aj_sm_congr t (g := fun j => ((G 0 v q).toNat * ((G 1 q r).toNat * (G 2 r s).toNat)) * aj_st G 3 q 1 2 j) (fun j hj => by
    have h9 := aj_a1_nn G hv hq hr hs (show j < 8 by omega)
    unfold aj_nn at h9
    rw [h9]
    show _ = _ * ((G 3 q j).toNat * (1 * 1))
    unfold aj_w
    simp only [Nat.mul_one]
    ac_rfl)]
  simp only [aj_sm_mul]
  simp only [Nat.mul_add, Nat.mul_assoc]
  omega
theorem aj_num_nn {k : Nat} (hk : k < 32768) : aj_num k = aj_nn (k % 8) (k / 8 % 8) (k / 64 % 8) (k / 512 % 8) (k / 4096) := by
  unfold aj_num aj_nn
  omega
theorem aj_E_rank (G : aj_T) {k : Nat} (hk : k < 32768) : aj_rkV G k = aj_sm (aj_a1 G) (aj_num k) := by
  rw [aj_num_nn hk, aj_pre G (by omega) (by omega) (by omega) (by omega) (by omega)]
  unfold aj_rkV
  cases G 0 (k % 8) (k / 8 % 8) <;> cases G 1 (k / 8 % 8) (k / 64 % 8) <;> cases G 2 (k / 64 % 8) (k / 512 % 8) <;> simp
theorem aj_E_has (G : aj_T) {k : Nat} (hk : k < 32768) : aj_hasC G k = aj_isA G (aj_num k) := by
  rw [aj_num_nn hk, aj_isA_nn G (by omega) (by omega) (by omega) (by omega) (by omega)]
  unfold aj_hasC
  cases G 0 (k % 8) (k / 8 % 8) <;> cases G 1 (k / 8 % 8) (k / 64 % 8) <;> simp
theorem aj_E_hit (G : aj_T) {kap v q r s t : Nat} (h : aj_IsK G kap v q r s t) : ∃ n0, n0 < 32768 ∧ aj_isA G n0 = true ∧ aj_sm (aj_a1 G) n0 = kap ∧ aj_code n0 = v + 8 * q + 64 * r + 512 * s + 4096 * t := by
  obtain ⟨⟨hv, hq, hr, hs, ht⟩, ⟨g0, g1, g2, g3⟩, hk⟩ := h
  refine ⟨aj_nn v q r s t, ?_, ?_, ?_, ?_⟩
  · unfold aj_nn
    omega
  · rw [aj_isA_nn G hv hq hr hs ht, g0, g1, g2, g3]
    rfl
  · rw [aj_pre G hv hq hr hs ht, g0, g1, g2, hk]
    simp
    omega
  · unfold aj_code aj_nn
    omega
theorem aj_E_miss (G : aj_T) {x : Int32} (h : x < 0 ∨ nI (aj_cnt G) ≤ x) : ∀ n, n < 32768 → aj_isA G n = true → ¬ nI (aj_sm (aj_a1 G) n) = x := by
  intro n hn ha e
  have h2 := aj_sm_mono (aj_a1 G) (show n + 1 ≤ 32768 from hn)
  rw [aj_sm_s, aj_a1, ha, ← aj_E_count] at h2
  have h3 := aj_cnt_le G
  simp at h2
  subst e
  rcases h with h | h
  · exact absurd h (nI_pos (by omega))
  · rw [nI_leI (by omega) (by omega)] at h
    omega
theorem aj_or_iff (f : Nat → Bool) : ∀ n, aj_or f n = true ↔ ∃ j, j < n ∧ f j = true
  | 0 => by simp [aj_or]
  | n + 1 => by
    show (aj_or f n || f n) = true ↔ _
    rw [Bool.or_eq_true, aj_or_iff f n]
    constructor
    · rintro (⟨j, h1, h2⟩ | h)
      · exact ⟨j, by omega, h2⟩
      · exact ⟨n, by omega, h⟩
    · rintro ⟨j, h1, h2⟩
      by_cases e : j = n
      · subst e
        exact Or.inr h2
      · exact Or.inl ⟨j, by omega, h2⟩
theorem aj_sm_pos (f : Nat → Nat) : ∀ n, 0 < aj_sm f n ↔ ∃ j, j < n ∧ 0 < f j
  | 0 => by simp [aj_sm]
  | n + 1 => by
    rw [aj_sm_s]
    constructor
    · intro h
      by_cases e : 0 < f n
      · exact ⟨n, by omega, e⟩
      · obtain ⟨j, h1, h2⟩ := (aj_sm_pos f n).mp (by omega)
        exact ⟨j, by omega, h2⟩
    · rintro ⟨j, h1, h2⟩
      by_cases e : j = n
      · subst e
        omega
      · have := (aj_sm_pos f n).mpr ⟨j, by omega, h2⟩
        omega
theorem aj_cT_pos (G : aj_T) (q : Nat) : 0 < aj_cT G q ↔ ∃ t, t < 8 ∧ G 3 q t = true := by
  unfold aj_cT
  rw [aj_sm_pos]
  constructor
  · rintro ⟨t, h1, h2⟩
    refine ⟨t, h1, ?_⟩
    cases h : G 3 q t
    · rw [h] at h2
      exact absurd h2 (by decide)
    · rfl
  · rintro ⟨t, h1, h2⟩
    refine ⟨t, h1, ?_⟩
    rw [h2]
    decide
theorem aj_E_eb (G : aj_T) {v s : Nat} (hv : v < 8) (hs : s < 8) : aj_sb G 32768 (8 * v + s) = aj_eb G v s := by
  rw [Bool.eq_iff_iff]
  unfold aj_sb aj_eb
  rw [aj_or_iff, aj_or_iff]
  constructor
  · rintro ⟨n, hn, h⟩
    rw [Bool.and_eq_true, decide_eq_true_iff] at h
    obtain ⟨h1, h2⟩ := h
    have hn2 : n = aj_nn (n / 4096) (n / 512 % 8) (n / 64 % 8) (n / 8 % 8) (n % 8) := by
      unfold aj_nn
      omega
    unfold aj_pr at h1
    rw [aj_v0, aj_v3] at h1
    have e1 : n / 4096 = v := by omega
    have e2 : n / 8 % 8 = s := by omega
    rw [hn2, aj_isA_nn G (by omega) (by omega) (by omega) (by omega) (by omega), e1, e2] at h2
    simp only [Bool.and_eq_true] at h2
    obtain ⟨g1, g0, g2, g3⟩ := h2
    refine ⟨n / 512 % 8, by omega, ?_⟩
    rw [aj_or_iff]
    refine ⟨n / 64 % 8, by omega, ?_⟩
    have hp : 0 < aj_cT G (n / 512 % 8) := (aj_cT_pos G _).mpr ⟨n % 8, by omega, g3⟩
    simp [aj_cnd, g0, g1, g2, hp]
  · rintro ⟨q, hq, h⟩
    rw [aj_or_iff] at h
    obtain ⟨r, hr, h⟩ := h
    simp only [aj_cnd, Bool.and_eq_true, decide_eq_true_iff] at h
    obtain ⟨⟨g0, hp, g1⟩, g2⟩ := h
    obtain ⟨t, ht, g3⟩ := (aj_cT_pos G q).mp hp
    refine ⟨aj_nn v q r s t, by unfold aj_nn; omega, ?_⟩
    rw [aj_isA_nn G hv hq hr hs ht, g0, g1, g2, g3]
    unfold aj_pr
    rw [(aj_vI_nn hv hq hr hs ht).1, (aj_vI_nn hv hq hr hs ht).2.2.2.1]
    simp
theorem aj_E_ends (G : aj_T) : aj_enV G = aj_emV G := by
  unfold aj_emV aj_enV
  rw [show 64 = 8 * 8 from rfl, aj_sm_8]
  exact aj_sm_congr 8 (fun v hv => aj_sm_congr 8 (fun s hs => by rw [aj_E_eb G hv hs]))
end
end
section
/-! both sides of each call of the law: one answer and one new picture -/
section
variable {l : Launch} {y : MethodName} {cc : ByteArray} {L : Nat} {rt : FieldType} {k : Nat} {D : va_G} {tys : List (ClassId × FieldType)} {av : List Value} {pre : Heap → Prop}
/-- a reader as a writer that leaves its picture -/
theorem aj_RW {A : Nat → Prop} {val : Int32} (h : aj_MR l y cc L rt k D tys av pre val) : aj_MW l y cc L rt k D tys av pre (aj_PV val pre) A := by
  refine MetFree.mono h (fun _ _ h => h) (fun _ _ _ _ _ h => h) (fun a st oc t hp hq => ?_)
  obtain ⟨⟨r, h1, h2, h3⟩, Ls, h4, h5⟩ := hq
  refine ⟨⟨⟨r, r, h1, rfl, h2, ?_⟩, ?_, ?_⟩, Ls, h4, fun q hq => (h5 q hq).elim⟩
  · rw [h3]
    exact hp.2.1
  · rw [h3]
    exact Nat.le_refl _
  · intro q _ _
    rw [h3]
theorem aj_MWm {A : Nat → Prop} {P P' : Int32 → Heap → Prop} (hm : ∀ v H, P v H → P' v H) (h : aj_MW l y cc L rt k D tys av pre P A) : aj_MW l y cc L rt k D tys av pre P' A := by
  refine MetFree.mono h (fun _ _ h => h) (fun _ _ _ _ _ h => h) (fun a st oc t hp hq => ?_)
  obtain ⟨⟨⟨r, u, h1, h2, h3⟩, hF⟩, hL⟩ := hq
  exact ⟨⟨⟨r, u, h1, h2, hm _ _ h3⟩, hF⟩, hL⟩
end
section
theorem aj_ivt (G : aj_T) {kap : Nat} : ∀ n, kap < aj_sm (aj_a1 G) n → ∃ n0, n0 < n ∧ aj_isA G n0 = true ∧ aj_sm (aj_a1 G) n0 = kap
  | 0, h => absurd h (Nat.not_lt_zero _)
  | n + 1, h => by
    by_cases q : kap < aj_sm (aj_a1 G) n
    · obtain ⟨n0, h1, h2⟩ := aj_ivt G n q
      exact ⟨n0, by omega, h2⟩
    · rw [aj_sm_s] at h
      cases hA : aj_isA G n
      · rw [aj_a1, hA] at h
        simp at h
        omega
      · rw [aj_a1, hA] at h
        simp at h
        exact ⟨n, by omega, hA, by omega⟩

theorem aj_op_put (l : Launch) {D : va_G} {ad bd : Nat → Nat} {d d2 d3 : ClassId} {G : aj_T} {S : Nat → Int32} (hC : aj_Ap 8 ad) (hM : aj_Ap 4 bd) (x : Int32) (y : Int32) (z : Int32) : ∃ (v : Int32) (G' : aj_T) (S' : Nat → Int32), aj_MW l yX0_put cX0_put 4 .int 1 D [(d, .int)] [.ref (ad 0), .int x, .int y, .int z] (aj_CC D ad d G S) (aj_PV v (aj_CC D ad d G' S')) (aj_In 8 ad) ∧ aj_MW l yX1_put cX1_put 4 .int 2 D [(d3, .int), (d2, .boolean)] [.ref (bd 0), .int x, .int y, .int z] (aj_MM D bd d2 d3 G S) (aj_PV v (aj_MM D bd d2 d3 G' S')) (aj_In 4 bd) := by
  rcases aj_args x y z with h | ⟨i, a, b, h1, h2, h3, rfl, rfl, rfl⟩
  · exact ⟨_, _, _, aj_C_put_bad l hC h, aj_M_put_bad l hM h⟩
  · exact ⟨_, _, _, aj_C_put_ok l hC h1 h2 h3, aj_M_put_ok l hM h1 h2 h3⟩
theorem aj_op_drop (l : Launch) {D : va_G} {ad bd : Nat → Nat} {d d2 d3 : ClassId} {G : aj_T} {S : Nat → Int32} (hC : aj_Ap 8 ad) (hM : aj_Ap 4 bd) (x : Int32) (y : Int32) (z : Int32) : ∃ (v : Int32) (G' : aj_T) (S' : Nat → Int32), aj_MW l yX0_drop cX0_drop 4 .int 1 D [(d, .int)] [.ref (ad 0), .int x, .int y, .int z] (aj_CC D ad d G S) (aj_PV v (aj_CC D ad d G' S')) (aj_In 8 ad) ∧ aj_MW l yX1_drop cX1_drop 4 .int 2 D [(d3, .int), (d2, .boolean)] [.ref (bd 0), .int x, .int y, .int z] (aj_MM D bd d2 d3 G S) (aj_PV v (aj_MM D bd d2 d3 G' S')) (aj_In 4 bd) := by
  rcases aj_args x y z with h | ⟨i, a, b, h1, h2, h3, rfl, rfl, rfl⟩
  · exact ⟨_, _, _, aj_C_drop_bad l hC h, aj_M_drop_bad l hM h⟩
  · exact ⟨_, _, _, aj_C_drop_ok l hC h1 h2 h3, aj_M_drop_ok l hM h1 h2 h3⟩
theorem aj_op_clear (l : Launch) {D : va_G} {ad bd : Nat → Nat} {d d2 d3 : ClassId} {G : aj_T} {S : Nat → Int32} (hC : aj_Ap 8 ad) (hM : aj_Ap 4 bd) (x : Int32) : ∃ (v : Int32) (G' : aj_T) (S' : Nat → Int32), aj_MW l yX0_clear cX0_clear 4 .int 0 D [(d, .int)] [.ref (ad 0), .int x] (aj_CC D ad d G S) (aj_PV v (aj_CC D ad d G' S')) (aj_In 8 ad) ∧ aj_MW l yX1_clear cX1_clear 4 .int 0 D [(d3, .int), (d2, .boolean)] [.ref (bd 0), .int x] (aj_MM D bd d2 d3 G S) (aj_PV v (aj_MM D bd d2 d3 G' S')) (aj_In 4 bd) := by
  rcases aj_arg1 x 4 (by decide) with h | ⟨i, h1, rfl⟩
  · exact ⟨_, _, _, aj_C_clear_bad l hC h, aj_M_clear_bad l hM h⟩
  · exact ⟨_, _, _, aj_C_clear_ok l hC h1, aj_M_clear_ok l hM h1⟩
theorem aj_op_rows (l : Launch) {D : va_G} {ad bd : Nat → Nat} {d d2 d3 : ClassId} {G : aj_T} {S : Nat → Int32} (hC : aj_Ap 8 ad) (hM : aj_Ap 4 bd) (x : Int32) : ∃ (v : Int32) (G' : aj_T) (S' : Nat → Int32), aj_MW l yX0_rows cX0_rows 2 .int 0 D [(d, .int)] [.ref (ad 0), .int x] (aj_CC D ad d G S) (aj_PV v (aj_CC D ad d G' S')) (aj_In 8 ad) ∧ aj_MW l yX1_rows cX1_rows 2 .int 0 D [(d3, .int), (d2, .boolean)] [.ref (bd 0), .int x] (aj_MM D bd d2 d3 G S) (aj_PV v (aj_MM D bd d2 d3 G' S')) (aj_In 4 bd) := by
  rcases aj_arg1 x 4 (by decide) with h | ⟨i, h1, rfl⟩
  · exact ⟨_, _, _, aj_RW (aj_C_rows_bad l h), aj_RW (aj_M_rows_bad l h)⟩
  · exact ⟨_, _, _, aj_RW (aj_C_rows_ok l h1), aj_RW (aj_M_rows_ok l h1)⟩
theorem aj_op_count (l : Launch) {D : va_G} {ad bd : Nat → Nat} {d d2 d3 : ClassId} {G : aj_T} {S : Nat → Int32} (hC : aj_Ap 8 ad) (hM : aj_Ap 4 bd) : ∃ (v : Int32) (G' : aj_T) (S' : Nat → Int32), aj_MW l yX0_count cX0_count 3 .int 2 D [(d, .int)] [.ref (ad 0)] (aj_CC D ad d G S) (aj_PV v (aj_CC D ad d G' S')) (aj_In 8 ad) ∧ aj_MW l yX1_count cX1_count 3 .int 3 D [(d3, .int), (d2, .boolean)] [.ref (bd 0)] (aj_MM D bd d2 d3 G S) (aj_PV v (aj_MM D bd d2 d3 G' S')) (aj_In 4 bd) := by
  refine ⟨nI (aj_sm (aj_a1 G) 32768), G, S, ?_, aj_RW (aj_M_count l)⟩
  rw [← aj_E_count]
  exact aj_MWm (fun v H h => ⟨h.1, h.2.CC⟩) (aj_C_count l hC)
theorem aj_op_answer (l : Launch) {D : va_G} {ad bd : Nat → Nat} {d d2 d3 : ClassId} {G : aj_T} {S : Nat → Int32} (hC : aj_Ap 8 ad) (hM : aj_Ap 4 bd) (x : Int32) : ∃ (v : Int32) (G' : aj_T) (S' : Nat → Int32), aj_MW l yX0_answer cX0_answer 8 .int 3 D [(d, .int)] [.ref (ad 0), .int x] (aj_CC D ad d G S) (aj_PV v (aj_CC D ad d G' S')) (aj_In 8 ad) ∧ aj_MW l yX1_answer cX1_answer 4 .int 3 D [(d3, .int), (d2, .boolean)] [.ref (bd 0), .int x] (aj_MM D bd d2 d3 G S) (aj_PV v (aj_MM D bd d2 d3 G' S')) (aj_In 4 bd) := by
  by_cases h : x < 0 ∨ nI (aj_cnt G) ≤ x
  · exact ⟨_, _, _, aj_C_answer_miss l hC h, aj_RW (aj_M_answer_miss l (aj_E_miss G h))⟩
  · obtain ⟨kap, hk, rfl⟩ := nI_of (fun q => h (Or.inl q))
    have h1 : kap < aj_cnt G := by
      rcases Nat.lt_or_ge kap (aj_cnt G) with q | q
      · exact q
      · exact absurd (Or.inr (nI_le q hk)) h
    obtain ⟨n0, g1, g2, g3⟩ := aj_ivt G 32768 (by rw [← aj_E_count]; exact h1)
    refine ⟨nI (aj_code n0), G, S, aj_MWm (fun v H hp => ?_) (aj_C_answer_hit l hC h1), aj_RW (aj_M_answer_hit l g1 g2 g3)⟩
    obtain ⟨⟨vp, vq, vr, vs, vt, hI, hv⟩, hp⟩ := hp
    obtain ⟨n1, e1, e2, e3, e4⟩ := aj_E_hit G hI
    obtain rfl : n1 = n0 := aj_uniq g2 e2 (e3.trans g3.symm)
    exact ⟨by rw [hv, e4], hp⟩
theorem aj_op_has (l : Launch) {D : va_G} {ad bd : Nat → Nat} {d d2 d3 : ClassId} {G : aj_T} {S : Nat → Int32} (hC : aj_Ap 8 ad) (hM : aj_Ap 4 bd) (x : Int32) : ∃ (v : Int32) (G' : aj_T) (S' : Nat → Int32), aj_MW l yX0_has cX0_has 7 .boolean 1 D [(d, .int)] [.ref (ad 0), .int x] (aj_CC D ad d G S) (aj_PV v (aj_CC D ad d G' S')) (aj_In 8 ad) ∧ aj_MW l yX1_has cX1_has 3 .boolean 3 D [(d3, .int), (d2, .boolean)] [.ref (bd 0), .int x] (aj_MM D bd d2 d3 G S) (aj_PV v (aj_MM D bd d2 d3 G' S')) (aj_In 4 bd) := by
  rcases aj_argC x with h | ⟨k, h1, rfl⟩
  · exact ⟨_, _, _, aj_RW (aj_C_has_bad l h), aj_RW (aj_M_has_bad l h)⟩
  · refine ⟨nI (aj_isA G (aj_num k)).toNat, G, S, ?_, aj_RW (aj_M_has_ok l h1)⟩
    rw [← aj_E_has G h1]
    exact aj_RW (aj_C_has_ok l h1)
theorem aj_op_rank (l : Launch) {D : va_G} {ad bd : Nat → Nat} {d d2 d3 : ClassId} {G : aj_T} {S : Nat → Int32} (hC : aj_Ap 8 ad) (hM : aj_Ap 4 bd) (x : Int32) : ∃ (v : Int32) (G' : aj_T) (S' : Nat → Int32), aj_MW l yX0_rank cX0_rank 10 .int 2 D [(d, .int)] [.ref (ad 0), .int x] (aj_CC D ad d G S) (aj_PV v (aj_CC D ad d G' S')) (aj_In 8 ad) ∧ aj_MW l yX1_rank cX1_rank 5 .int 3 D [(d3, .int), (d2, .boolean)] [.ref (bd 0), .int x] (aj_MM D bd d2 d3 G S) (aj_PV v (aj_MM D bd d2 d3 G' S')) (aj_In 4 bd) := by
  rcases aj_argC x with h | ⟨k, h1, rfl⟩
  · exact ⟨_, _, _, aj_C_rank_bad l hC h, aj_RW (aj_M_rank_bad l h)⟩
  · refine ⟨nI (aj_sm (aj_a1 G) (aj_num k)), G, S, ?_, aj_RW (aj_M_rank_ok l h1)⟩
    rw [← aj_E_rank G h1]
    exact aj_C_rank_ok l hC h1
theorem aj_op_useful (l : Launch) {D : va_G} {ad bd : Nat → Nat} {d d2 d3 : ClassId} {G : aj_T} {S : Nat → Int32} (hC : aj_Ap 8 ad) (hM : aj_Ap 4 bd) (x : Int32) : ∃ (v : Int32) (G' : aj_T) (S' : Nat → Int32), aj_MW l yX0_useful cX0_useful 6 .int 2 D [(d, .int)] [.ref (ad 0), .int x] (aj_CC D ad d G S) (aj_PV v (aj_CC D ad d G' S')) (aj_In 8 ad) ∧ aj_MW l yX1_useful cX1_useful 4 .int 4 D [(d3, .int), (d2, .boolean)] [.ref (bd 0), .int x] (aj_MM D bd d2 d3 G S) (aj_PV v (aj_MM D bd d2 d3 G' S')) (aj_In 4 bd) := by
  rcases aj_arg1 x 4 (by decide) with h | ⟨i, h1, rfl⟩
  · exact ⟨_, _, _, aj_C_useful_bad l hC h, aj_RW (aj_M_useful_bad l h)⟩
  · refine ⟨nI (aj_umV G i), G, S, ?_, aj_RW (aj_M_useful_ok l h1)⟩
    rw [← aj_E_useful G h1]
    exact aj_C_useful_ok l hC h1
theorem aj_op_weight (l : Launch) {D : va_G} {ad bd : Nat → Nat} {d d2 d3 : ClassId} {G : aj_T} {S : Nat → Int32} (hC : aj_Ap 8 ad) (hM : aj_Ap 4 bd) (x : Int32) (y : Int32) (z : Int32) : ∃ (v : Int32) (G' : aj_T) (S' : Nat → Int32), aj_MW l yX0_weight cX0_weight 4 .int 2 D [(d, .int)] [.ref (ad 0), .int x, .int y, .int z] (aj_CC D ad d G S) (aj_PV v (aj_CC D ad d G' S')) (aj_In 8 ad) ∧ aj_MW l yX1_weight cX1_weight 4 .int 4 D [(d3, .int), (d2, .boolean)] [.ref (bd 0), .int x, .int y, .int z] (aj_MM D bd d2 d3 G S) (aj_PV v (aj_MM D bd d2 d3 G' S')) (aj_In 4 bd) := by
  rcases aj_args x y z with h | ⟨i, a, b, h1, h2, h3, rfl, rfl, rfl⟩
  · exact ⟨_, _, _, aj_C_weight_bad l hC h, aj_RW (aj_M_weight_bad l h)⟩
  · refine ⟨nI (aj_cw G (64 * i + 8 * a + b)), G, S, ?_, aj_RW (aj_M_weight_ok l h1 h2 h3)⟩
    rw [← aj_E_weight G h1 h2 h3]
    exact aj_C_weight_ok l hC h1 h2 h3
theorem aj_op_gain (l : Launch) {D : va_G} {ad bd : Nat → Nat} {d d2 d3 : ClassId} {G : aj_T} {S : Nat → Int32} (hC : aj_Ap 8 ad) (hM : aj_Ap 4 bd) (x : Int32) (y : Int32) (z : Int32) : ∃ (v : Int32) (G' : aj_T) (S' : Nat → Int32), aj_MW l yX0_gain cX0_gain 4 .int 2 D [(d, .int)] [.ref (ad 0), .int x, .int y, .int z] (aj_CC D ad d G S) (aj_PV v (aj_CC D ad d G' S')) (aj_In 8 ad) ∧ aj_MW l yX1_gain cX1_gain 6 .int 4 D [(d3, .int), (d2, .boolean)] [.ref (bd 0), .int x, .int y, .int z] (aj_MM D bd d2 d3 G S) (aj_PV v (aj_MM D bd d2 d3 G' S')) (aj_In 4 bd) := by
  rcases aj_args x y z with h | ⟨i, a, b, h1, h2, h3, rfl, rfl, rfl⟩
  · exact ⟨_, _, _, aj_C_gain_bad l hC h, aj_M_gain_bad l hM h⟩
  · refine ⟨nI (aj_gmV G i a b), G, S, ?_, aj_M_gain_ok l hM h1 h2 h3⟩
    rw [← aj_E_gain G h1 h2 h3]
    exact aj_C_gain_ok l hC h1 h2 h3
theorem aj_op_values (l : Launch) {D : va_G} {ad bd : Nat → Nat} {d d2 d3 : ClassId} {G : aj_T} {S : Nat → Int32} (hC : aj_Ap 8 ad) (hM : aj_Ap 4 bd) (x : Int32) : ∃ (v : Int32) (G' : aj_T) (S' : Nat → Int32), aj_MW l yX0_values cX0_values 5 .int 3 D [(d, .int)] [.ref (ad 0), .int x] (aj_CC D ad d G S) (aj_PV v (aj_CC D ad d G' S')) (aj_In 8 ad) ∧ aj_MW l yX1_values cX1_values 4 .int 4 D [(d3, .int), (d2, .boolean)] [.ref (bd 0), .int x] (aj_MM D bd d2 d3 G S) (aj_PV v (aj_MM D bd d2 d3 G' S')) (aj_In 4 bd) := by
  rcases aj_arg1 x 5 (by decide) with h | ⟨i, h1, rfl⟩
  · exact ⟨_, _, _, aj_C_values_bad l hC h, aj_RW (aj_M_values_bad l h)⟩
  · refine ⟨nI (aj_vmV G i), G, S, ?_, aj_RW (aj_M_values_ok l h1)⟩
    rw [← aj_E_values G h1]
    exact aj_C_values_ok l hC h1
theorem aj_op_with (l : Launch) {D : va_G} {ad bd : Nat → Nat} {d d2 d3 : ClassId} {G : aj_T} {S : Nat → Int32} (hC : aj_Ap 8 ad) (hM : aj_Ap 4 bd) (x : Int32) (y : Int32) : ∃ (v : Int32) (G' : aj_T) (S' : Nat → Int32), aj_MW l yX0_with cX0_with 3 .int 3 D [(d, .int)] [.ref (ad 0), .int x, .int y] (aj_CC D ad d G S) (aj_PV v (aj_CC D ad d G' S')) (aj_In 8 ad) ∧ aj_MW l yX1_with cX1_with 3 .int 4 D [(d3, .int), (d2, .boolean)] [.ref (bd 0), .int x, .int y] (aj_MM D bd d2 d3 G S) (aj_PV v (aj_MM D bd d2 d3 G' S')) (aj_In 4 bd) := by
  rcases aj_arg1 x 5 (by decide) with h | ⟨i, h1, rfl⟩
  · have h : (aj_out 5 x || aj_out 8 y) = true := by rw [h]; rfl
    exact ⟨_, _, _, aj_C_with_bad l hC h, aj_RW (aj_M_with_bad l h)⟩
  rcases aj_arg1 y 8 (by decide) with h | ⟨v, h2, rfl⟩
  · have h : (aj_out 5 (nI i) || aj_out 8 y) = true := by rw [h, Bool.or_true]
    exact ⟨_, _, _, aj_C_with_bad l hC h, aj_RW (aj_M_with_bad l h)⟩
  · refine ⟨nI (aj_cv G i v), G, S, ?_, aj_RW (aj_M_with_ok l h1 h2)⟩
    rw [← aj_E_col G h1 h2]
    exact aj_C_with_ok l hC h1 h2
theorem aj_op_ends (l : Launch) {D : va_G} {ad bd : Nat → Nat} {d d2 d3 : ClassId} {G : aj_T} {S : Nat → Int32} (hC : aj_Ap 8 ad) (hM : aj_Ap 4 bd) : ∃ (v : Int32) (G' : aj_T) (S' : Nat → Int32), aj_MW l yX0_ends cX0_ends 5 .int 2 D [(d, .int)] [.ref (ad 0)] (aj_CC D ad d G S) (aj_PV v (aj_CC D ad d G' S')) (aj_In 8 ad) ∧ aj_MW l yX1_ends cX1_ends 4 .int 3 D [(d3, .int), (d2, .boolean)] [.ref (bd 0)] (aj_MM D bd d2 d3 G S) (aj_PV v (aj_MM D bd d2 d3 G' S')) (aj_In 4 bd) := by
  refine ⟨nI (aj_emV G), G, S, ?_, aj_M_ends l hM⟩
  rw [← aj_E_ends]
  exact aj_C_ends l hC
theorem aj_op_sum (l : Launch) {D : va_G} {ad bd : Nat → Nat} {d d2 d3 : ClassId} {G : aj_T} {S : Nat → Int32} (hC : aj_Ap 8 ad) (hM : aj_Ap 4 bd) : ∃ (v : Int32) (G' : aj_T) (S' : Nat → Int32), aj_MW l yX0_sum cX0_sum 5 .int 3 D [(d, .int)] [.ref (ad 0)] (aj_CC D ad d G S) (aj_PV v (aj_CC D ad d G' S')) (aj_In 8 ad) ∧ aj_MW l yX1_sum cX1_sum 3 .int 3 D [(d3, .int), (d2, .boolean)] [.ref (bd 0)] (aj_MM D bd d2 d3 G S) (aj_PV v (aj_MM D bd d2 d3 G' S')) (aj_In 4 bd) := by
  refine ⟨nI (aj_smV G), G, S, ?_, aj_RW (aj_M_sum l)⟩
  rw [← aj_E_sum]
  exact aj_C_sum l hC
end
end
section
section
set_option maxHeartbeats 4000000 in
set_option maxRecDepth 100000 in
theorem aj_C_init (l : Launch) {D : va_G} {h0 sz : Nat} : Met l yX0_init (ws_ yX0_init cX0_init 1 none) ({ frames := 1, cells := 7, slots := 76, locals := 12 }) (va_Pc [.ref h0] (fun U => U.heap.size = sz ∧ va_P D aj_cl [(h0, .inr (0, [.null, .null, .int 0, .null, .null, .null, .null, .null, .int 0]))] U.heap ∧ va_K D aj_cl [] U ∧ va_D (fun _ => True) [(h0, .inr (0, [.null, .null, .int 0, .null, .null, .null, .null, .null, .int 0]))])) (va_Qv (fun _ : Unit => True) (fun _ t => ∃ (ad : Nat → Nat) (d : ClassId), ad 0 = h0 ∧ va_P D aj_cl (aj_cW ad d (fun _ => 0) (fun _ => 0) (nI 0) (fun _ => 0) (fun _ => 0) (fun _ => 0) (fun _ => 0) (fun _ => 0) 0) t.heap ∧ va_K D aj_cl [(d, .int)] t ∧ va_D (va_A [(h0, .inr (0, [.null, .null, .int 0, .null, .null, .null, .null, .null, .int 0]))] sz) (aj_cW ad d (fun _ => 0) (fun _ => 0) (nI 0) (fun _ => 0) (fun _ => 0) (fun _ => 0) (fun _ => 0) (fun _ => 0) 0)) (va_A [(h0, .inr (0, [.null, .null, .int 0, .null, .null, .null, .null, .null, .int 0]))] sz)) 7 76 (va_A [(h0, .inr (0, [.null, .null, .int 0, .null, .null, .null, .null, .null, .int 0]))] sz) := by
  refine Met.ofW (cc := cX0_init) (maxL := 1) (ret := none) (by decide) rfl ?_
  intro p e s m args below meth c s₁ B hml hv
  obtain ⟨rfl, hsz, hP, hK, hD0⟩ := hv
  have hx := B.exec
  have hb := B.bytes
  have hr := B.returns
  have hts0 := atoms_spec (ws := ws_ yX0_init cX0_init 1 none) B.pre
  have hts : ∀ w ∈ lw_all, w.before _ s = true := fun w h => hts0 w (List.mem_cons_of_mem _ h)
  have hown : s.vm.findClass RX0 = some m.cls := findClass_of_methodNamed B.named
  have hlocks := B.notSynchronized
  have hin : meth.name = "<init>" := (name_of_methodNamed B.named B.method).1
  subst hsz
  have hD := hD0.self (sz := s.heap.size)
  generalize hAe : va_A [(h0, .inr (0, [.null, .null, .int 0, .null, .null, .null, .null, .null, .int 0]))] s.heap.size = A at hD ⊢
  have hA : ∀ q : Nat, s.heap.size ≤ q → A q := fun q h => by rw [← hAe]; exact Or.inr h
  have hS : va_S A s.heap s.heap [] := va_S.rf
  have hl := lv_entry ([.ref h0]) (n := 1) (Nat.le_of_ble_eq_true rfl)
  rw [lg_entry_eq]
  generalize (lg_sl ([.ref h0]) ++ List.replicate (1 - (lg_sl ([.ref h0])).length) Slot.unset).toArray = ls at hl ⊢
  have hl : lv_has ls 1 [(0, .ref h0)] := hl
  refine lv_aload_n hx hb dX0_init_0 rfl (lv_at hl 0 rfl) ?_
  refine W.objInit hx hb hown (hts _ q29) (hts _ q30) (hts _ q31) rfl (by rw [hml]; exact hl.1) rfl dX0_init_1 (Nat.le_of_ble_eq_true rfl) (Nat.le_of_ble_eq_true rfl) ?_
  refine W.eq (g2 := F0 m 4 ls []) rfl ?_
  refine lv_aload_n hx hb dX0_init_4 rfl (lv_at hl 0 rfl) ?_
  refine lv_bipush (v := nI 32) hx hb dX0_init_5 (by decide) ?_
  refine va_newa (atype := .int) (ty := .int) (N' := 32) (a0 := (32, .inl (fun _ => 0))) hx hb (hts _ q60) rfl hK hP hD hS hA (fun _ => rfl) (by decide) (by decide) (by decide) (Nat.le_of_ble_eq_true rfl) (Nat.le_of_ble_eq_true rfl) dX0_init_7 (fun a0 c0 H hK hP hD hS => ?_)
  have hK : va_K D aj_cl [(c0, .int)] s := hK
  have hP : va_P D aj_cl [(h0, .inr (0, [.null, .null, .int 0, .null, .null, .null, .null, .null, .int 0])), (a0, .inl (c0, 32, .inl (fun _ => 0)))] H := hP
  have hD : va_D A [(h0, .inr (0, [.null, .null, .int 0, .null, .null, .null, .null, .null, .int 0])), (a0, .inl (c0, 32, .inl (fun _ => 0)))] := hD
  refine va_putF (D := D) (ci := 0) (v := .ref a0) (ty := .array .int) (C := RX0) (T := TX0) (N := 9) hx hb hts in_X0 tyX0 tyX0_ok nmX0 hown hK hP hD hS 0 rfl rfl 0 (by decide) (hts _ q32) (fun _ h9 => h9) rfl hin rfl (by decide +kernel) rfl rfl (Nat.le_of_ble_eq_true rfl) dX0_init_9 (fun H locs hP hD hS => ?_)
  have hP : va_P D aj_cl [(h0, .inr (0, [.ref a0, .null, .int 0, .null, .null, .null, .null, .null, .int 0])), (a0, .inl (c0, 32, .inl (fun _ => 0)))] H := hP
  have hD : va_D A [(h0, .inr (0, [.ref a0, .null, .int 0, .null, .null, .null, .null, .null, .int 0])), (a0, .inl (c0, 32, .inl (fun _ => 0)))] := hD
  refine lv_aload_n hx hb dX0_init_12 rfl (lv_at hl 0 rfl) ?_
  refine lv_iconst (v := nI 4) hx hb dX0_init_13 (by decide) ?_
  refine va_newa (atype := .int) (ty := .int) (N' := 4) (a0 := (4, .inl (fun _ => 0))) hx hb (hts _ q60) rfl hK hP hD hS hA (fun _ => rfl) (by decide) (by decide) (by decide) (Nat.le_of_ble_eq_true rfl) (Nat.le_of_ble_eq_true rfl) dX0_init_14 (fun a1 c1 H hK hP hD hS => ?_)
  have hK : va_K D aj_cl [(c0, .int), (c1, .int)] s := hK
  have hP : va_P D aj_cl [(h0, .inr (0, [.ref a0, .null, .int 0, .null, .null, .null, .null, .null, .int 0])), (a0, .inl (c0, 32, .inl (fun _ => 0))), (a1, .inl (c1, 4, .inl (fun _ => 0)))] H := hP
  have hD : va_D A [(h0, .inr (0, [.ref a0, .null, .int 0, .null, .null, .null, .null, .null, .int 0])), (a0, .inl (c0, 32, .inl (fun _ => 0))), (a1, .inl (c1, 4, .inl (fun _ => 0)))] := hD
  refine va_putF (D := D) (ci := 0) (v := .ref a1) (ty := .array .int) (C := RX0) (T := TX0) (N := 9) hx hb hts in_X0 tyX0 tyX0_ok nmX0 hown hK hP hD hS 0 rfl rfl 1 (by decide) (hts _ q33) (fun _ h9 => h9) rfl hin rfl (by decide +kernel) rfl rfl (Nat.le_of_ble_eq_true rfl) dX0_init_16 (fun H locs hP hD hS => ?_)
  have hP : va_P D aj_cl [(h0, .inr (0, [.ref a0, .ref a1, .int 0, .null, .null, .null, .null, .null, .int 0])), (a0, .inl (c0, 32, .inl (fun _ => 0))), (a1, .inl (c1, 4, .inl (fun _ => 0)))] H := hP
  have hD : va_D A [(h0, .inr (0, [.ref a0, .ref a1, .int 0, .null, .null, .null, .null, .null, .int 0])), (a0, .inl (c0, 32, .inl (fun _ => 0))), (a1, .inl (c1, 4, .inl (fun _ => 0)))] := hD
  refine lv_aload_n hx hb dX0_init_19 rfl (lv_at hl 0 rfl) ?_
  refine lv_bipush (v := nI 8) hx hb dX0_init_20 (by decide) ?_
  refine va_newa (atype := .int) (ty := .int) (N' := 8) (a0 := (8, .inl (fun _ => 0))) hx hb (hts _ q60) rfl hK hP hD hS hA (fun _ => rfl) (by decide) (by decide) (by decide) (Nat.le_of_ble_eq_true rfl) (Nat.le_of_ble_eq_true rfl) dX0_init_22 (fun a3 c3 H hK hP hD hS => ?_)
  have hK : va_K D aj_cl [(c0, .int), (c1, .int), (c3, .int)] s := hK
  have hP : va_P D aj_cl [(h0, .inr (0, [.ref a0, .ref a1, .int 0, .null, .null, .null, .null, .null, .int 0])), (a0, .inl (c0, 32, .inl (fun _ => 0))), (a1, .inl (c1, 4, .inl (fun _ => 0))), (a3, .inl (c3, 8, .inl (fun _ => 0)))] H := hP
  have hD : va_D A [(h0, .inr (0, [.ref a0, .ref a1, .int 0, .null, .null, .null, .null, .null, .int 0])), (a0, .inl (c0, 32, .inl (fun _ => 0))), (a1, .inl (c1, 4, .inl (fun _ => 0))), (a3, .inl (c3, 8, .inl (fun _ => 0)))] := hD
  refine va_putF (D := D) (ci := 0) (v := .ref a3) (ty := .array .int) (C := RX0) (T := TX0) (N := 9) hx hb hts in_X0 tyX0 tyX0_ok nmX0 hown hK hP hD hS 0 rfl rfl 3 (by decide) (hts _ q35) (fun _ h9 => h9) rfl hin rfl (by decide +kernel) rfl rfl (Nat.le_of_ble_eq_true rfl) dX0_init_24 (fun H locs hP hD hS => ?_)
  have hP : va_P D aj_cl [(h0, .inr (0, [.ref a0, .ref a1, .int 0, .ref a3, .null, .null, .null, .null, .int 0])), (a0, .inl (c0, 32, .inl (fun _ => 0))), (a1, .inl (c1, 4, .inl (fun _ => 0))), (a3, .inl (c3, 8, .inl (fun _ => 0)))] H := hP
  have hD : va_D A [(h0, .inr (0, [.ref a0, .ref a1, .int 0, .ref a3, .null, .null, .null, .null, .int 0])), (a0, .inl (c0, 32, .inl (fun _ => 0))), (a1, .inl (c1, 4, .inl (fun _ => 0))), (a3, .inl (c3, 8, .inl (fun _ => 0)))] := hD
  refine lv_aload_n hx hb dX0_init_27 rfl (lv_at hl 0 rfl) ?_
  refine lv_bipush (v := nI 8) hx hb dX0_init_28 (by decide) ?_
  refine va_newa (atype := .int) (ty := .int) (N' := 8) (a0 := (8, .inl (fun _ => 0))) hx hb (hts _ q60) rfl hK hP hD hS hA (fun _ => rfl) (by decide) (by decide) (by decide) (Nat.le_of_ble_eq_true rfl) (Nat.le_of_ble_eq_true rfl) dX0_init_30 (fun a4 c4 H hK hP hD hS => ?_)
  have hK : va_K D aj_cl [(c0, .int), (c1, .int), (c3, .int), (c4, .int)] s := hK
  have hP : va_P D aj_cl [(h0, .inr (0, [.ref a0, .ref a1, .int 0, .ref a3, .null, .null, .null, .null, .int 0])), (a0, .inl (c0, 32, .inl (fun _ => 0))), (a1, .inl (c1, 4, .inl (fun _ => 0))), (a3, .inl (c3, 8, .inl (fun _ => 0))), (a4, .inl (c4, 8, .inl (fun _ => 0)))] H := hP
  have hD : va_D A [(h0, .inr (0, [.ref a0, .ref a1, .int 0, .ref a3, .null, .null, .null, .null, .int 0])), (a0, .inl (c0, 32, .inl (fun _ => 0))), (a1, .inl (c1, 4, .inl (fun _ => 0))), (a3, .inl (c3, 8, .inl (fun _ => 0))), (a4, .inl (c4, 8, .inl (fun _ => 0)))] := hD
  refine va_putF (D := D) (ci := 0) (v := .ref a4) (ty := .array .int) (C := RX0) (T := TX0) (N := 9) hx hb hts in_X0 tyX0 tyX0_ok nmX0 hown hK hP hD hS 0 rfl rfl 4 (by decide) (hts _ q36) (fun _ h9 => h9) rfl hin rfl (by decide +kernel) rfl rfl (Nat.le_of_ble_eq_true rfl) dX0_init_32 (fun H locs hP hD hS => ?_)
  have hP : va_P D aj_cl [(h0, .inr (0, [.ref a0, .ref a1, .int 0, .ref a3, .ref a4, .null, .null, .null, .int 0])), (a0, .inl (c0, 32, .inl (fun _ => 0))), (a1, .inl (c1, 4, .inl (fun _ => 0))), (a3, .inl (c3, 8, .inl (fun _ => 0))), (a4, .inl (c4, 8, .inl (fun _ => 0)))] H := hP
  have hD : va_D A [(h0, .inr (0, [.ref a0, .ref a1, .int 0, .ref a3, .ref a4, .null, .null, .null, .int 0])), (a0, .inl (c0, 32, .inl (fun _ => 0))), (a1, .inl (c1, 4, .inl (fun _ => 0))), (a3, .inl (c3, 8, .inl (fun _ => 0))), (a4, .inl (c4, 8, .inl (fun _ => 0)))] := hD
  refine lv_aload_n hx hb dX0_init_35 rfl (lv_at hl 0 rfl) ?_
  refine lv_bipush (v := nI 8) hx hb dX0_init_36 (by decide) ?_
  refine va_newa (atype := .int) (ty := .int) (N' := 8) (a0 := (8, .inl (fun _ => 0))) hx hb (hts _ q60) rfl hK hP hD hS hA (fun _ => rfl) (by decide) (by decide) (by decide) (Nat.le_of_ble_eq_true rfl) (Nat.le_of_ble_eq_true rfl) dX0_init_38 (fun a5 c5 H hK hP hD hS => ?_)
  have hK : va_K D aj_cl [(c0, .int), (c1, .int), (c3, .int), (c4, .int), (c5, .int)] s := hK
  have hP : va_P D aj_cl [(h0, .inr (0, [.ref a0, .ref a1, .int 0, .ref a3, .ref a4, .null, .null, .null, .int 0])), (a0, .inl (c0, 32, .inl (fun _ => 0))), (a1, .inl (c1, 4, .inl (fun _ => 0))), (a3, .inl (c3, 8, .inl (fun _ => 0))), (a4, .inl (c4, 8, .inl (fun _ => 0))), (a5, .inl (c5, 8, .inl (fun _ => 0)))] H := hP
  have hD : va_D A [(h0, .inr (0, [.ref a0, .ref a1, .int 0, .ref a3, .ref a4, .null, .null, .null, .int 0])), (a0, .inl (c0, 32, .inl (fun _ => 0))), (a1, .inl (c1, 4, .inl (fun _ => 0))), (a3, .inl (c3, 8, .inl (fun _ => 0))), (a4, .inl (c4, 8, .inl (fun _ => 0))), (a5, .inl (c5, 8, .inl (fun _ => 0)))] := hD
  refine va_putF (D := D) (ci := 0) (v := .ref a5) (ty := .array .int) (C := RX0) (T := TX0) (N := 9) hx hb hts in_X0 tyX0 tyX0_ok nmX0 hown hK hP hD hS 0 rfl rfl 5 (by decide) (hts _ q37) (fun _ h9 => h9) rfl hin rfl (by decide +kernel) rfl rfl (Nat.le_of_ble_eq_true rfl) dX0_init_40 (fun H locs hP hD hS => ?_)
  have hP : va_P D aj_cl [(h0, .inr (0, [.ref a0, .ref a1, .int 0, .ref a3, .ref a4, .ref a5, .null, .null, .int 0])), (a0, .inl (c0, 32, .inl (fun _ => 0))), (a1, .inl (c1, 4, .inl (fun _ => 0))), (a3, .inl (c3, 8, .inl (fun _ => 0))), (a4, .inl (c4, 8, .inl (fun _ => 0))), (a5, .inl (c5, 8, .inl (fun _ => 0)))] H := hP
  have hD : va_D A [(h0, .inr (0, [.ref a0, .ref a1, .int 0, .ref a3, .ref a4, .ref a5, .null, .null, .int 0])), (a0, .inl (c0, 32, .inl (fun _ => 0))), (a1, .inl (c1, 4, .inl (fun _ => 0))), (a3, .inl (c3, 8, .inl (fun _ => 0))), (a4, .inl (c4, 8, .inl (fun _ => 0))), (a5, .inl (c5, 8, .inl (fun _ => 0)))] := hD
  refine lv_aload_n hx hb dX0_init_43 rfl (lv_at hl 0 rfl) ?_
  refine lv_bipush (v := nI 8) hx hb dX0_init_44 (by decide) ?_
  refine va_newa (atype := .int) (ty := .int) (N' := 8) (a0 := (8, .inl (fun _ => 0))) hx hb (hts _ q60) rfl hK hP hD hS hA (fun _ => rfl) (by decide) (by decide) (by decide) (Nat.le_of_ble_eq_true rfl) (Nat.le_of_ble_eq_true rfl) dX0_init_46 (fun a6 c6 H hK hP hD hS => ?_)
  have hK : va_K D aj_cl [(c0, .int), (c1, .int), (c3, .int), (c4, .int), (c5, .int), (c6, .int)] s := hK
  have hP : va_P D aj_cl [(h0, .inr (0, [.ref a0, .ref a1, .int 0, .ref a3, .ref a4, .ref a5, .null, .null, .int 0])), (a0, .inl (c0, 32, .inl (fun _ => 0))), (a1, .inl (c1, 4, .inl (fun _ => 0))), (a3, .inl (c3, 8, .inl (fun _ => 0))), (a4, .inl (c4, 8, .inl (fun _ => 0))), (a5, .inl (c5, 8, .inl (fun _ => 0))), (a6, .inl (c6, 8, .inl (fun _ => 0)))] H := hP
  have hD : va_D A [(h0, .inr (0, [.ref a0, .ref a1, .int 0, .ref a3, .ref a4, .ref a5, .null, .null, .int 0])), (a0, .inl (c0, 32, .inl (fun _ => 0))), (a1, .inl (c1, 4, .inl (fun _ => 0))), (a3, .inl (c3, 8, .inl (fun _ => 0))), (a4, .inl (c4, 8, .inl (fun _ => 0))), (a5, .inl (c5, 8, .inl (fun _ => 0))), (a6, .inl (c6, 8, .inl (fun _ => 0)))] := hD
  refine va_putF (D := D) (ci := 0) (v := .ref a6) (ty := .array .int) (C := RX0) (T := TX0) (N := 9) hx hb hts in_X0 tyX0 tyX0_ok nmX0 hown hK hP hD hS 0 rfl rfl 6 (by decide) (hts _ q38) (fun _ h9 => h9) rfl hin rfl (by decide +kernel) rfl rfl (Nat.le_of_ble_eq_true rfl) dX0_init_48 (fun H locs hP hD hS => ?_)
  have hP : va_P D aj_cl [(h0, .inr (0, [.ref a0, .ref a1, .int 0, .ref a3, .ref a4, .ref a5, .ref a6, .null, .int 0])), (a0, .inl (c0, 32, .inl (fun _ => 0))), (a1, .inl (c1, 4, .inl (fun _ => 0))), (a3, .inl (c3, 8, .inl (fun _ => 0))), (a4, .inl (c4, 8, .inl (fun _ => 0))), (a5, .inl (c5, 8, .inl (fun _ => 0))), (a6, .inl (c6, 8, .inl (fun _ => 0)))] H := hP
  have hD : va_D A [(h0, .inr (0, [.ref a0, .ref a1, .int 0, .ref a3, .ref a4, .ref a5, .ref a6, .null, .int 0])), (a0, .inl (c0, 32, .inl (fun _ => 0))), (a1, .inl (c1, 4, .inl (fun _ => 0))), (a3, .inl (c3, 8, .inl (fun _ => 0))), (a4, .inl (c4, 8, .inl (fun _ => 0))), (a5, .inl (c5, 8, .inl (fun _ => 0))), (a6, .inl (c6, 8, .inl (fun _ => 0)))] := hD
  refine lv_aload_n hx hb dX0_init_51 rfl (lv_at hl 0 rfl) ?_
  refine lv_bipush (v := nI 8) hx hb dX0_init_52 (by decide) ?_
  refine va_newa (atype := .int) (ty := .int) (N' := 8) (a0 := (8, .inl (fun _ => 0))) hx hb (hts _ q60) rfl hK hP hD hS hA (fun _ => rfl) (by decide) (by decide) (by decide) (Nat.le_of_ble_eq_true rfl) (Nat.le_of_ble_eq_true rfl) dX0_init_54 (fun a7 c7 H hK hP hD hS => ?_)
  have hK : va_K D aj_cl [(c0, .int), (c1, .int), (c3, .int), (c4, .int), (c5, .int), (c6, .int), (c7, .int)] s := hK
  have hP : va_P D aj_cl [(h0, .inr (0, [.ref a0, .ref a1, .int 0, .ref a3, .ref a4, .ref a5, .ref a6, .null, .int 0])), (a0, .inl (c0, 32, .inl (fun _ => 0))), (a1, .inl (c1, 4, .inl (fun _ => 0))), (a3, .inl (c3, 8, .inl (fun _ => 0))), (a4, .inl (c4, 8, .inl (fun _ => 0))), (a5, .inl (c5, 8, .inl (fun _ => 0))), (a6, .inl (c6, 8, .inl (fun _ => 0))), (a7, .inl (c7, 8, .inl (fun _ => 0)))] H := hP
  have hD : va_D A [(h0, .inr (0, [.ref a0, .ref a1, .int 0, .ref a3, .ref a4, .ref a5, .ref a6, .null, .int 0])), (a0, .inl (c0, 32, .inl (fun _ => 0))), (a1, .inl (c1, 4, .inl (fun _ => 0))), (a3, .inl (c3, 8, .inl (fun _ => 0))), (a4, .inl (c4, 8, .inl (fun _ => 0))), (a5, .inl (c5, 8, .inl (fun _ => 0))), (a6, .inl (c6, 8, .inl (fun _ => 0))), (a7, .inl (c7, 8, .inl (fun _ => 0)))] := hD
  refine va_putF (D := D) (ci := 0) (v := .ref a7) (ty := .array .int) (C := RX0) (T := TX0) (N := 9) hx hb hts in_X0 tyX0 tyX0_ok nmX0 hown hK hP hD hS 0 rfl rfl 7 (by decide) (hts _ q39) (fun _ h9 => h9) rfl hin rfl (by decide +kernel) rfl rfl (Nat.le_of_ble_eq_true rfl) dX0_init_56 (fun H locs hP hD hS => ?_)
  have hP : va_P D aj_cl [(h0, .inr (0, [.ref a0, .ref a1, .int 0, .ref a3, .ref a4, .ref a5, .ref a6, .ref a7, .int 0])), (a0, .inl (c0, 32, .inl (fun _ => 0))), (a1, .inl (c1, 4, .inl (fun _ => 0))), (a3, .inl (c3, 8, .inl (fun _ => 0))), (a4, .inl (c4, 8, .inl (fun _ => 0))), (a5, .inl (c5, 8, .inl (fun _ => 0))), (a6, .inl (c6, 8, .inl (fun _ => 0))), (a7, .inl (c7, 8, .inl (fun _ => 0)))] H := hP
  have hD : va_D A [(h0, .inr (0, [.ref a0, .ref a1, .int 0, .ref a3, .ref a4, .ref a5, .ref a6, .ref a7, .int 0])), (a0, .inl (c0, 32, .inl (fun _ => 0))), (a1, .inl (c1, 4, .inl (fun _ => 0))), (a3, .inl (c3, 8, .inl (fun _ => 0))), (a4, .inl (c4, 8, .inl (fun _ => 0))), (a5, .inl (c5, 8, .inl (fun _ => 0))), (a6, .inl (c6, 8, .inl (fun _ => 0))), (a7, .inl (c7, 8, .inl (fun _ => 0)))] := hD
  obtain rfl : c0 = c1 := Option.some.inj ((hK.2 0 _ rfl).2.symm.trans (hK.2 1 _ rfl).2)
  obtain rfl : c0 = c3 := Option.some.inj ((hK.2 0 _ rfl).2.symm.trans (hK.2 2 _ rfl).2)
  obtain rfl : c0 = c4 := Option.some.inj ((hK.2 0 _ rfl).2.symm.trans (hK.2 3 _ rfl).2)
  obtain rfl : c0 = c5 := Option.some.inj ((hK.2 0 _ rfl).2.symm.trans (hK.2 4 _ rfl).2)
  obtain rfl : c0 = c6 := Option.some.inj ((hK.2 0 _ rfl).2.symm.trans (hK.2 5 _ rfl).2)
  obtain rfl : c0 = c7 := Option.some.inj ((hK.2 0 _ rfl).2.symm.trans (hK.2 6 _ rfl).2)
  refine W.widen (k := 7) (n := 76) (Nat.le_of_ble_eq_true rfl) (Nat.le_of_ble_eq_true rfl) ?_
  have hend : ∀ t : State, t.heap = H → s.vm.Alike t.vm → ∃ (ad : Nat → Nat) (d : ClassId), ad 0 = h0 ∧ va_P D aj_cl (aj_cW ad d (fun _ => 0) (fun _ => 0) (nI 0) (fun _ => 0) (fun _ => 0) (fun _ => 0) (fun _ => 0) (fun _ => 0) 0) t.heap ∧ va_K D aj_cl [(d, .int)] t ∧ va_D A (aj_cW ad d (fun _ => 0) (fun _ => 0) (nI 0) (fun _ => 0) (fun _ => 0) (fun _ => 0) (fun _ => 0) (fun _ => 0) 0) := fun t ht hvm => ⟨fun k => match k with | 0 => h0 | 1 => a0 | 2 => a1 | 3 => a3 | 4 => a4 | 5 => a5 | 6 => a6 | _ => a7, _, rfl, by rw [ht]; exact hP, va_K.moved hvm (hK.sub [0] rfl), hD⟩
  exact W.vret hx hb hr (fun t ht hW => ⟨⟨(), rfl, trivial, hend t ht hW.alike⟩, hS.F ht⟩) hS.2.2 dX0_init_59
set_option maxHeartbeats 4000000 in
set_option maxRecDepth 100000 in
theorem aj_M_init (l : Launch) {D : va_G} {h0 sz : Nat} : Met l yX1_init (ws_ yX1_init cX1_init 1 none) ({ frames := 1, cells := 3, slots := 324, locals := 12 }) (va_Pc [.ref h0] (fun U => U.heap.size = sz ∧ va_P D aj_cl [(h0, .inr (1, [.null, .null, .null]))] U.heap ∧ va_K D aj_cl [] U ∧ va_D (fun _ => True) [(h0, .inr (1, [.null, .null, .null]))])) (va_Qv (fun _ : Unit => True) (fun _ t => ∃ (bd : Nat → Nat) (d2 d : ClassId), bd 0 = h0 ∧ va_P D aj_cl (aj_mW bd d2 d (fun _ => 0) (fun _ => 0) (fun _ => 0)) t.heap ∧ va_K D aj_cl [(d, .int), (d2, .boolean)] t ∧ va_D (va_A [(h0, .inr (1, [.null, .null, .null]))] sz) (aj_mW bd d2 d (fun _ => 0) (fun _ => 0) (fun _ => 0))) (va_A [(h0, .inr (1, [.null, .null, .null]))] sz)) 3 324 (va_A [(h0, .inr (1, [.null, .null, .null]))] sz) := by
  refine Met.ofW (cc := cX1_init) (maxL := 1) (ret := none) (by decide) rfl ?_
  intro p e s m args below meth c s₁ B hml hv
  obtain ⟨rfl, hsz, hP, hK, hD0⟩ := hv
  have hx := B.exec
  have hb := B.bytes
  have hr := B.returns
  have hts0 := atoms_spec (ws := ws_ yX1_init cX1_init 1 none) B.pre
  have hts : ∀ w ∈ lw_all, w.before _ s = true := fun w h => hts0 w (List.mem_cons_of_mem _ h)
  have hown : s.vm.findClass RX1 = some m.cls := findClass_of_methodNamed B.named
  have hlocks := B.notSynchronized
  have hin : meth.name = "<init>" := (name_of_methodNamed B.named B.method).1
  subst hsz
  have hD := hD0.self (sz := s.heap.size)
  generalize hAe : va_A [(h0, .inr (1, [.null, .null, .null]))] s.heap.size = A at hD ⊢
  have hA : ∀ q : Nat, s.heap.size ≤ q → A q := fun q h => by rw [← hAe]; exact Or.inr h
  have hS : va_S A s.heap s.heap [] := va_S.rf
  have hl := lv_entry ([.ref h0]) (n := 1) (Nat.le_of_ble_eq_true rfl)
  rw [lg_entry_eq]
  generalize (lg_sl ([.ref h0]) ++ List.replicate (1 - (lg_sl ([.ref h0])).length) Slot.unset).toArray = ls at hl ⊢
  have hl : lv_has ls 1 [(0, .ref h0)] := hl
  refine lv_aload_n hx hb dX1_init_0 rfl (lv_at hl 0 rfl) ?_
  refine W.objInit hx hb hown (hts _ q171) (hts _ q30) (hts _ q31) rfl (by rw [hml]; exact hl.1) rfl dX1_init_1 (Nat.le_of_ble_eq_true rfl) (Nat.le_of_ble_eq_true rfl) ?_
  refine W.eq (g2 := F0 m 4 ls []) rfl ?_
  refine lv_aload_n hx hb dX1_init_4 rfl (lv_at hl 0 rfl) ?_
  refine lv_sipush (v := nI 256) hx hb dX1_init_5 (by decide) ?_
  refine va_newa (atype := .boolean) (ty := .boolean) (N' := 256) (a0 := (256, .inl (fun _ => 0))) hx hb (hts _ q182) rfl hK hP hD hS hA (fun _ => rfl) (by decide) (by decide) (by decide) (Nat.le_of_ble_eq_true rfl) (Nat.le_of_ble_eq_true rfl) dX1_init_8 (fun a0 c0 H hK hP hD hS => ?_)
  have hK : va_K D aj_cl [(c0, .boolean)] s := hK
  have hP : va_P D aj_cl [(h0, .inr (1, [.null, .null, .null])), (a0, .inl (c0, 256, .inl (fun _ => 0)))] H := hP
  have hD : va_D A [(h0, .inr (1, [.null, .null, .null])), (a0, .inl (c0, 256, .inl (fun _ => 0)))] := hD
  refine va_putF (D := D) (ci := 1) (v := .ref a0) (ty := .array .boolean) (C := RX1) (T := TX1) (N := 3) hx hb hts in_X1 tyX1 tyX1_ok nmX1 hown hK hP hD hS 0 rfl rfl 0 (by decide) (hts _ q172) (fun _ h9 => h9) rfl hin rfl (by decide +kernel) rfl rfl (Nat.le_of_ble_eq_true rfl) dX1_init_10 (fun H locs hP hD hS => ?_)
  have hP : va_P D aj_cl [(h0, .inr (1, [.ref a0, .null, .null])), (a0, .inl (c0, 256, .inl (fun _ => 0)))] H := hP
  have hD : va_D A [(h0, .inr (1, [.ref a0, .null, .null])), (a0, .inl (c0, 256, .inl (fun _ => 0)))] := hD
  refine lv_aload_n hx hb dX1_init_13 rfl (lv_at hl 0 rfl) ?_
  refine lv_iconst (v := nI 4) hx hb dX1_init_14 (by decide) ?_
  refine va_newa (atype := .int) (ty := .int) (N' := 4) (a0 := (4, .inl (fun _ => 0))) hx hb (hts _ q60) rfl hK hP hD hS hA (fun _ => rfl) (by decide) (by decide) (by decide) (Nat.le_of_ble_eq_true rfl) (Nat.le_of_ble_eq_true rfl) dX1_init_15 (fun a1 c1 H hK hP hD hS => ?_)
  have hK : va_K D aj_cl [(c0, .boolean), (c1, .int)] s := hK
  have hP : va_P D aj_cl [(h0, .inr (1, [.ref a0, .null, .null])), (a0, .inl (c0, 256, .inl (fun _ => 0))), (a1, .inl (c1, 4, .inl (fun _ => 0)))] H := hP
  have hD : va_D A [(h0, .inr (1, [.ref a0, .null, .null])), (a0, .inl (c0, 256, .inl (fun _ => 0))), (a1, .inl (c1, 4, .inl (fun _ => 0)))] := hD
  refine va_putF (D := D) (ci := 1) (v := .ref a1) (ty := .array .int) (C := RX1) (T := TX1) (N := 3) hx hb hts in_X1 tyX1 tyX1_ok nmX1 hown hK hP hD hS 0 rfl rfl 1 (by decide) (hts _ q173) (fun _ h9 => h9) rfl hin rfl (by decide +kernel) rfl rfl (Nat.le_of_ble_eq_true rfl) dX1_init_17 (fun H locs hP hD hS => ?_)
  have hP : va_P D aj_cl [(h0, .inr (1, [.ref a0, .ref a1, .null])), (a0, .inl (c0, 256, .inl (fun _ => 0))), (a1, .inl (c1, 4, .inl (fun _ => 0)))] H := hP
  have hD : va_D A [(h0, .inr (1, [.ref a0, .ref a1, .null])), (a0, .inl (c0, 256, .inl (fun _ => 0))), (a1, .inl (c1, 4, .inl (fun _ => 0)))] := hD
  refine lv_aload_n hx hb dX1_init_20 rfl (lv_at hl 0 rfl) ?_
  refine lv_bipush (v := nI 64) hx hb dX1_init_21 (by decide) ?_
  refine va_newa (atype := .boolean) (ty := .boolean) (N' := 64) (a0 := (64, .inl (fun _ => 0))) hx hb (hts _ q182) rfl hK hP hD hS hA (fun _ => rfl) (by decide) (by decide) (by decide) (Nat.le_of_ble_eq_true rfl) (Nat.le_of_ble_eq_true rfl) dX1_init_23 (fun a2 c2 H hK hP hD hS => ?_)
  have hK : va_K D aj_cl [(c0, .boolean), (c1, .int), (c2, .boolean)] s := hK
  have hP : va_P D aj_cl [(h0, .inr (1, [.ref a0, .ref a1, .null])), (a0, .inl (c0, 256, .inl (fun _ => 0))), (a1, .inl (c1, 4, .inl (fun _ => 0))), (a2, .inl (c2, 64, .inl (fun _ => 0)))] H := hP
  have hD : va_D A [(h0, .inr (1, [.ref a0, .ref a1, .null])), (a0, .inl (c0, 256, .inl (fun _ => 0))), (a1, .inl (c1, 4, .inl (fun _ => 0))), (a2, .inl (c2, 64, .inl (fun _ => 0)))] := hD
  refine va_putF (D := D) (ci := 1) (v := .ref a2) (ty := .array .boolean) (C := RX1) (T := TX1) (N := 3) hx hb hts in_X1 tyX1 tyX1_ok nmX1 hown hK hP hD hS 0 rfl rfl 2 (by decide) (hts _ q174) (fun _ h9 => h9) rfl hin rfl (by decide +kernel) rfl rfl (Nat.le_of_ble_eq_true rfl) dX1_init_25 (fun H locs hP hD hS => ?_)
  have hP : va_P D aj_cl [(h0, .inr (1, [.ref a0, .ref a1, .ref a2])), (a0, .inl (c0, 256, .inl (fun _ => 0))), (a1, .inl (c1, 4, .inl (fun _ => 0))), (a2, .inl (c2, 64, .inl (fun _ => 0)))] H := hP
  have hD : va_D A [(h0, .inr (1, [.ref a0, .ref a1, .ref a2])), (a0, .inl (c0, 256, .inl (fun _ => 0))), (a1, .inl (c1, 4, .inl (fun _ => 0))), (a2, .inl (c2, 64, .inl (fun _ => 0)))] := hD
  obtain rfl : c0 = c2 := Option.some.inj ((hK.2 0 _ rfl).2.symm.trans (hK.2 2 _ rfl).2)
  refine W.widen (k := 3) (n := 324) (Nat.le_of_ble_eq_true rfl) (Nat.le_of_ble_eq_true rfl) ?_
  have hend : ∀ t : State, t.heap = H → s.vm.Alike t.vm → ∃ (bd : Nat → Nat) (d2 d : ClassId), bd 0 = h0 ∧ va_P D aj_cl (aj_mW bd d2 d (fun _ => 0) (fun _ => 0) (fun _ => 0)) t.heap ∧ va_K D aj_cl [(d, .int), (d2, .boolean)] t ∧ va_D A (aj_mW bd d2 d (fun _ => 0) (fun _ => 0) (fun _ => 0)) := fun t ht hvm => ⟨fun k => match k with | 0 => h0 | 1 => a0 | 2 => a1 | _ => a2, _, _, rfl, by rw [ht]; exact hP, va_K.moved hvm (hK.sub [1, 0] rfl), hD⟩
  exact W.vret hx hb hr (fun t ht hW => ⟨⟨(), rfl, trivial, hend t ht hW.alike⟩, hS.F ht⟩) hS.2.2 dX1_init_28
end
end
section
section
/-! THE CLAIM OUT OF ONE WALK OF THE LAW'S BODY. Your part is whole_start (and what it stands on); all else here is the same for every law, but numbers. -/
def R_law : String := "AcyclicJoinsLaw"
def lw_P (b : Addr) (xs : List Int32) (args : Array Value) (s : State) : Prop := args = #[.ref b] ∧ s.IntsAt b xs ∧ xs.length ≤ 256 ∧ (Jvm.Cond.and given_1 narrow_1).before args s = true
def lw_Q (_ : Array Value) (s : State) (o : Outcome) (t : State) : Prop := o = .returned (some (.int 1)) ∧ Framed s o t [] 600000 7290000
def lw_Z (below : List Frame) (a : Array Value) (s : State) : State → Prop := fun t => ∃ o, t.status = .running ∧ Ended t below o ∧ lw_Q a s o t
/-- the law's own end, with 1 on the stack, nothing written that was there before, its room as the claim has it -/
theorem lw_ret {p : Program} {l : Launch} {e : Env} {s : State} {m : MethodId} {below : List Frame} {meth : Method} {c : Code} {b : Nat} (hx : p.tables.exec = Jvm.exec) (hb : c.code = code) (hr : meth.sig.returnType = ret) (hlocks : meth.locks = false) {pc : Nat} {H : Heap} {ls : Array Slot} (hdg : decode code pc = .ok (.ireturn, 1)) : W p l e room_1 s m #[Value.ref b] below meth c H [] 600000 7290000 (lw_Z below #[Value.ref b] s) (F0 m pc ls [.int 1]) := by
  intro T hT X
  obtain ⟨fs, hret, hrun, hended, hW, hframe⟩ := X.leave (v := some (.int 1)) (hlocks := hlocks) (fun h => by rw [hr] at h; cases h)
  have hmeth' : T.vm.method? m = some meth := X.method'
  refine ⟨T.setFrames fs, ?_, .returned (some (.int 1)), hrun, hended, rfl, ⟨_, rfl⟩, hW, hframe⟩
  jvm_step X.here [X.here.top, hx, hb, hdg, hmeth', hr, ret, narrow_b1]
  (try refine ⟨rfl, ?_⟩); (try refine ⟨rfl, ?_⟩)
  first | (intro acts; rw [hret _ acts rfl rfl rfl]) | rw [hret _ _ rfl rfl rfl]
  exact Steps.refl _
/-- what holds at the law's entry: the machine, the code, the tables' words (any of lw_tbl by 'hts w (by decide +kernel)'), the script of L ints xs at the cell b, what the Statement gives of the start (any of its parts by flat_of_before) -/
def lw_At (p : Program) (s : State) (m : MethodId) (meth : Method) (c : Code) (b L : Nat) (xs : Nat → Int32) : Prop :=
  p.tables.exec = Jvm.exec ∧ c.code = code ∧ meth.sig.returnType = ret ∧ c.maxLocals = 4 ∧ s.vm.findClass R_law = some m.cls ∧ (∀ w ∈ lw_tbl, w.before #[Value.ref b] s = true) ∧ va_X b L xs s s.heap ∧ b < s.heap.size ∧ meth.locks = false ∧ (Jvm.Cond.and given_1 narrow_1).before #[Value.ref b] s = true
end
end
section
/-! the law's loop: one call on either side after another -/
section
variable {p : Program} {l : Launch} {e : Env} {R : Room} {s : State} {m : MethodId} {args : Array Value} {below : List Frame} {meth : Method} {c : Code} {H : Heap} {locs : List Loc} {cells slots : Nat} {Q : State → Prop}
variable {cc : ByteArray} {pc : Nat} {ls : Array Slot} {rest : List Value} {A : Nat → Prop} {H0 : Heap}
theorem aj_sld (hx : p.tables.exec = Jvm.exec) (hb : c.code = cc) {b L : Nat} {xs : Nat → Int32} (hX : va_X b L xs s H0) (hbl : b < H0.size) (hbA : ¬ A b) (hS : va_S A H0 H locs) {i : Nat} (hi : i < L) (hL : L < 2 ^ 31) (hdg : decode cc pc = .ok (.iaload, 1)) (k : W p l e R s m args below meth c H locs cells slots Q (F0 m (pc + 1) ls (.int (xs i) :: rest))) : W p l e R s m args below meth c H locs cells slots Q (F0 m pc ls (.int (nI i) :: .ref b :: rest)) := by
  refine va_sld hx hb hX hbl hbA hS (vp_in_nI hi hL) hdg ?_
  rw [nI_clamp (Nat.lt_trans hi hL)]
  exact k
end
section
variable {D : va_G} {ad bd : Nat → Nat} {d d2 d3 : ClassId} {G : aj_T} {S : Nat → Int32} {H H1 : Heap} {s : State} {tys : List (ClassId × FieldType)}
theorem aj_CC_recv (hK : va_K D aj_cl tys s) (h : aj_CC D ad d G S H) : ∃ cell : Cell, H[ad 0]? = some cell ∧ cell.vm.isStatics = false ∧ s.vm.findClass RX0 = some cell.cls := by
  obtain ⟨N, pb, dR, dT, dQ, uQ, uR, re, hG, hC, hP⟩ := h
  exact va_recv (q0 := 0) hK hP (ci := 0) rfl rfl
theorem aj_MM_recv (hK : va_K D aj_cl tys s) (h : aj_MM D bd d2 d3 G S H) : ∃ cell : Cell, H[bd 0]? = some cell ∧ cell.vm.isStatics = false ∧ s.vm.findClass RX1 = some cell.cls := by
  obtain ⟨M, E, hM, hP⟩ := h
  exact va_recv (q0 := 0) hK hP (ci := 1) rfl rfl
theorem aj_CC_kept (h : aj_CC D ad d G S H) (hdis : ∀ i j, i < 8 → j < 4 → ad i ≠ bd j) (hk : ∀ q : Nat, q < H.size → ¬ aj_In 4 bd q → H1[q]? = H[q]?) : aj_CC D ad d G S H1 := by
  obtain ⟨N, pb, dR, dT, dQ, uQ, uR, re, hG, hC, hP⟩ := h
  refine ⟨N, pb, dR, dT, dQ, uQ, uR, re, hG, hC, hP.kept (fun k q hq => hk q.1 (hP k q hq).lt ?_)⟩
  rintro ⟨j, hj, e⟩
  obtain ⟨h1, h2⟩ := aj_cAt k q hq
  exact hdis k j h1 hj (h2.symm.trans e)
theorem aj_MM_kept (h : aj_MM D bd d2 d3 G S H) (hdis : ∀ i j, i < 8 → j < 4 → ad i ≠ bd j) (hk : ∀ q : Nat, q < H.size → ¬ aj_In 8 ad q → H1[q]? = H[q]?) : aj_MM D bd d2 d3 G S H1 := by
  obtain ⟨M, E, hM, hP⟩ := h
  refine ⟨M, E, hM, hP.kept (fun k q hq => hk q.1 (hP k q hq).lt ?_)⟩
  rintro ⟨j, hj, e⟩
  obtain ⟨h1, h2⟩ := aj_mAt k q hq
  exact hdis j k hj h1 (e.symm.trans h2)
theorem aj_InA {n : Nat} {f : Nat → Nat} {z : Nat} (h : ∀ i, i < n → z ≤ f i) {q : Nat} (hq : aj_In n f q) : z ≤ q := by
  obtain ⟨k, h1, h2⟩ := hq
  rw [h2]
  exact h k h1
theorem aj_cmpL {L i : Nat} (hL : L ≤ 256) (hi : i ≤ 256) : (Int32.ofNat L - nI 4 < nI i) ↔ L < i + 4 := by
  show nI L - nI 4 < nI i ↔ _
  rcases Nat.lt_or_ge L 4 with h | h
  · have h1 : nI L - nI 4 < 0 := pk_sneg (by decide) h
    have h2 : (0 : Int32) ≤ nI i := nI_pos' (by omega)
    exact ⟨fun _ => by omega, fun _ => Int32.lt_of_lt_of_le h1 h2⟩
  · rw [pk_sub h, nI_ltI (by omega) (by omega)]
    omega
end
section

set_option maxHeartbeats 4000000 in
set_option maxRecDepth 100000 in
theorem aj_law_put {p : Program} {e : Env} {s : State} {m : MethodId} {below : List Frame} {meth : Method} {c : Code} (l : Launch) {b L : Nat} {xs : Nat → Int32} (hL : L ≤ 256) (C0 : lw_At p s m meth c b L xs) {D : va_G} {ad bd : Nat → Nat} {d d2 d3 : ClassId} (hKc : va_K D aj_cl [(d, .int)] s) (hKm : va_K D aj_cl [(d3, .int), (d2, .boolean)] s) (hC : aj_Ap 8 ad) (hM : aj_Ap 4 bd) (hdis : ∀ i j, i < 8 → j < 4 → ad i ≠ bd j) (hAc : ∀ i, i < 8 → s.heap.size ≤ ad i) (hAm : ∀ i, i < 4 → s.heap.size ≤ bd i) {i : Nat} {G : aj_T} {S : Nat → Int32} (hi : i + 4 ≤ L) (ih : ∀ (G : aj_T) (S : Nat → Int32) (H : Heap) (locs : List Loc), aj_CC D ad d G S H → aj_MM D bd d2 d3 G S H → va_S (fun q : Nat => s.heap.size ≤ q) s.heap H locs → ∀ (ls : Array Slot), lv_has ls 4 [(0, .ref b), (1, .ref (ad 0)), (2, .ref (bd 0)), (3, .int (nI (i + 4)))] → W p l e room_1 s m #[Value.ref b] below meth c H locs 600000 7290000 (lw_Z below #[Value.ref b] s) (F0 m 18 ls [])) {H : Heap} {locs : List Loc} (hCC : aj_CC D ad d G S H) (hMM : aj_MM D bd d2 d3 G S H) (hS : va_S (fun q : Nat => s.heap.size ≤ q) s.heap H locs) {ls : Array Slot} (hl : lv_has ls 4 [(0, .ref b), (1, .ref (ad 0)), (2, .ref (bd 0)), (3, .int (nI i))]) : W p l e room_1 s m #[Value.ref b] below meth c H locs 600000 7290000 (lw_Z below #[Value.ref b] s) (F0 m 108 ls []) := by
  obtain ⟨hx, hb, hr, hml, hown, hts0, hX, hbl, hlocks, hgv⟩ := id C0
  have hts : ∀ w ∈ lw_all, w.before #[Value.ref b] s = true := fun w h => hts0 w (lw_all_tbl h)
  have hbA : ¬ (fun q : Nat => s.heap.size ≤ q) b := Nat.not_le.mpr hbl
  have F : CallFix p m c code 4 s #[Value.ref b] lw_all "AcyclicJoinsLaw" := ⟨hx, hb, hml, hown, hts⟩
  obtain ⟨v, G', S', hc, hm⟩ := aj_op_put l (D := D) (d := d) (d2 := d2) (d3 := d3) (G := G) (S := S) hC hM (xs (i + 1)) (xs (i + 2)) (xs (i + 3))
  refine lv_aload_n hx hb dL_law_108 rfl (lv_at hl 1 rfl) ?_
  refine lv_aload_n hx hb dL_law_109 rfl (lv_at hl 0 rfl) ?_
  refine lv_iload_n hx hb dL_law_110 rfl (lv_at hl 3 rfl) ?_
  refine lv_iconst (v := nI 1) hx hb dL_law_111 (by decide) ?_
  refine aj_iadd hx hb dL_law_112 ?_
  refine aj_sld hx hb hX hbl hbA hS (by omega) (by omega) dL_law_113 ?_
  refine lv_aload_n hx hb dL_law_114 rfl (lv_at hl 0 rfl) ?_
  refine lv_iload_n hx hb dL_law_115 rfl (lv_at hl 3 rfl) ?_
  refine lv_iconst (v := nI 2) hx hb dL_law_116 (by decide) ?_
  refine aj_iadd hx hb dL_law_117 ?_
  refine aj_sld hx hb hX hbl hbA hS (by omega) (by omega) dL_law_118 ?_
  refine lv_aload_n hx hb dL_law_119 rfl (lv_at hl 0 rfl) ?_
  refine lv_iload_n hx hb dL_law_120 rfl (lv_at hl 3 rfl) ?_
  refine lv_iconst (v := nI 3) hx hb dL_law_121 (by decide) ?_
  refine aj_iadd hx hb dL_law_122 ?_
  refine aj_sld hx hb hX hbl hbA hS (by omega) (by omega) dL_law_123 ?_
  refine aj_callW (A := fun q : Nat => s.heap.size ≤ q) (As := [.int (xs (i + 1)), .int (xs (i + 2)), .int (xs (i + 3))]) (rest := []) F hc aj_gL_X0_put aj_hX0_put ⟨Nat.le_of_ble_eq_true rfl, Nat.le_of_ble_eq_true rfl⟩ rfl rfl hKc hCC (aj_CC_recv hKc hCC) rfl hl.1 rfl (Nat.le_of_ble_eq_true rfl) ⟨Nat.le_refl _, Nat.le_refl _⟩ dL_law_124 hS (fun q h => aj_InA hAc h) (fun r H locs hB _ hk hS => ?_)
  obtain ⟨hr1, hCC⟩ := hB
  rw [hr1]
  have hMM := aj_MM_kept hMM hdis hk
  refine lv_aload_n hx hb dL_law_127 rfl (lv_at hl 2 rfl) ?_
  refine lv_aload_n hx hb dL_law_128 rfl (lv_at hl 0 rfl) ?_
  refine lv_iload_n hx hb dL_law_129 rfl (lv_at hl 3 rfl) ?_
  refine lv_iconst (v := nI 1) hx hb dL_law_130 (by decide) ?_
  refine aj_iadd hx hb dL_law_131 ?_
  refine aj_sld hx hb hX hbl hbA hS (by omega) (by omega) dL_law_132 ?_
  refine lv_aload_n hx hb dL_law_133 rfl (lv_at hl 0 rfl) ?_
  refine lv_iload_n hx hb dL_law_134 rfl (lv_at hl 3 rfl) ?_
  refine lv_iconst (v := nI 2) hx hb dL_law_135 (by decide) ?_
  refine aj_iadd hx hb dL_law_136 ?_
  refine aj_sld hx hb hX hbl hbA hS (by omega) (by omega) dL_law_137 ?_
  refine lv_aload_n hx hb dL_law_138 rfl (lv_at hl 0 rfl) ?_
  refine lv_iload_n hx hb dL_law_139 rfl (lv_at hl 3 rfl) ?_
  refine lv_iconst (v := nI 3) hx hb dL_law_140 (by decide) ?_
  refine aj_iadd hx hb dL_law_141 ?_
  refine aj_sld hx hb hX hbl hbA hS (by omega) (by omega) dL_law_142 ?_
  refine aj_callW (A := fun q : Nat => s.heap.size ≤ q) (As := [.int (xs (i + 1)), .int (xs (i + 2)), .int (xs (i + 3))]) (rest := [.int v]) F hm aj_gL_X1_put aj_hX1_put ⟨Nat.le_of_ble_eq_true rfl, Nat.le_of_ble_eq_true rfl⟩ rfl rfl hKm hMM (aj_MM_recv hKm hMM) rfl hl.1 rfl (Nat.le_of_ble_eq_true rfl) ⟨Nat.le_refl _, Nat.le_refl _⟩ dL_law_143 hS (fun q h => aj_InA hAm h) (fun r H locs hB _ hk hS => ?_)
  obtain ⟨hr2, hMM⟩ := hB
  rw [hr2]
  have hCC := aj_CC_kept hCC hdis hk
  refine lv_icmp_eq (tgt := 513) hx hb dL_law_146 (by decide) (fun _ => ?_) (fun c9 => absurd rfl c9)
  refine lv_iinc (v := nI (i + 4)) (lv' := [(3, .int (nI (i + 4))), (0, .ref b), (1, .ref (ad 0)), (2, .ref (bd 0))]) hx hb dL_law_513 hl (k := 3) rfl (nI_add i 4) (by decide) rfl (fun ls hl => ?_)
  refine lv_goto (tgt := 18) hx hb dL_law_516 (by decide) ?_
  exact ih G' S' _ _ hCC hMM hS ls (lv_sub hl [1, 2, 3, 0] rfl)
set_option maxHeartbeats 4000000 in
set_option maxRecDepth 100000 in
theorem aj_law_drop {p : Program} {e : Env} {s : State} {m : MethodId} {below : List Frame} {meth : Method} {c : Code} (l : Launch) {b L : Nat} {xs : Nat → Int32} (hL : L ≤ 256) (C0 : lw_At p s m meth c b L xs) {D : va_G} {ad bd : Nat → Nat} {d d2 d3 : ClassId} (hKc : va_K D aj_cl [(d, .int)] s) (hKm : va_K D aj_cl [(d3, .int), (d2, .boolean)] s) (hC : aj_Ap 8 ad) (hM : aj_Ap 4 bd) (hdis : ∀ i j, i < 8 → j < 4 → ad i ≠ bd j) (hAc : ∀ i, i < 8 → s.heap.size ≤ ad i) (hAm : ∀ i, i < 4 → s.heap.size ≤ bd i) {i : Nat} {G : aj_T} {S : Nat → Int32} (hi : i + 4 ≤ L) (ih : ∀ (G : aj_T) (S : Nat → Int32) (H : Heap) (locs : List Loc), aj_CC D ad d G S H → aj_MM D bd d2 d3 G S H → va_S (fun q : Nat => s.heap.size ≤ q) s.heap H locs → ∀ (ls : Array Slot), lv_has ls 4 [(0, .ref b), (1, .ref (ad 0)), (2, .ref (bd 0)), (3, .int (nI (i + 4)))] → W p l e room_1 s m #[Value.ref b] below meth c H locs 600000 7290000 (lw_Z below #[Value.ref b] s) (F0 m 18 ls [])) {H : Heap} {locs : List Loc} (hCC : aj_CC D ad d G S H) (hMM : aj_MM D bd d2 d3 G S H) (hS : va_S (fun q : Nat => s.heap.size ≤ q) s.heap H locs) {ls : Array Slot} (hl : lv_has ls 4 [(0, .ref b), (1, .ref (ad 0)), (2, .ref (bd 0)), (3, .int (nI i))]) : W p l e room_1 s m #[Value.ref b] below meth c H locs 600000 7290000 (lw_Z below #[Value.ref b] s) (F0 m 151 ls []) := by
  obtain ⟨hx, hb, hr, hml, hown, hts0, hX, hbl, hlocks, hgv⟩ := id C0
  have hts : ∀ w ∈ lw_all, w.before #[Value.ref b] s = true := fun w h => hts0 w (lw_all_tbl h)
  have hbA : ¬ (fun q : Nat => s.heap.size ≤ q) b := Nat.not_le.mpr hbl
  have F : CallFix p m c code 4 s #[Value.ref b] lw_all "AcyclicJoinsLaw" := ⟨hx, hb, hml, hown, hts⟩
  obtain ⟨v, G', S', hc, hm⟩ := aj_op_drop l (D := D) (d := d) (d2 := d2) (d3 := d3) (G := G) (S := S) hC hM (xs (i + 1)) (xs (i + 2)) (xs (i + 3))
  refine lv_aload_n hx hb dL_law_151 rfl (lv_at hl 1 rfl) ?_
  refine lv_aload_n hx hb dL_law_152 rfl (lv_at hl 0 rfl) ?_
  refine lv_iload_n hx hb dL_law_153 rfl (lv_at hl 3 rfl) ?_
  refine lv_iconst (v := nI 1) hx hb dL_law_154 (by decide) ?_
  refine aj_iadd hx hb dL_law_155 ?_
  refine aj_sld hx hb hX hbl hbA hS (by omega) (by omega) dL_law_156 ?_
  refine lv_aload_n hx hb dL_law_157 rfl (lv_at hl 0 rfl) ?_
  refine lv_iload_n hx hb dL_law_158 rfl (lv_at hl 3 rfl) ?_
  refine lv_iconst (v := nI 2) hx hb dL_law_159 (by decide) ?_
  refine aj_iadd hx hb dL_law_160 ?_
  refine aj_sld hx hb hX hbl hbA hS (by omega) (by omega) dL_law_161 ?_
  refine lv_aload_n hx hb dL_law_162 rfl (lv_at hl 0 rfl) ?_
  refine lv_iload_n hx hb dL_law_163 rfl (lv_at hl 3 rfl) ?_
  refine lv_iconst (v := nI 3) hx hb dL_law_164 (by decide) ?_
  refine aj_iadd hx hb dL_law_165 ?_
  refine aj_sld hx hb hX hbl hbA hS (by omega) (by omega) dL_law_166 ?_
  refine aj_callW (A := fun q : Nat => s.heap.size ≤ q) (As := [.int (xs (i + 1)), .int (xs (i + 2)), .int (xs (i + 3))]) (rest := []) F hc aj_gL_X0_drop aj_hX0_drop ⟨Nat.le_of_ble_eq_true rfl, Nat.le_of_ble_eq_true rfl⟩ rfl rfl hKc hCC (aj_CC_recv hKc hCC) rfl hl.1 rfl (Nat.le_of_ble_eq_true rfl) ⟨Nat.le_refl _, Nat.le_refl _⟩ dL_law_167 hS (fun q h => aj_InA hAc h) (fun r H locs hB _ hk hS => ?_)
  obtain ⟨hr1, hCC⟩ := hB
  rw [hr1]
  have hMM := aj_MM_kept hMM hdis hk
  refine lv_aload_n hx hb dL_law_170 rfl (lv_at hl 2 rfl) ?_
  refine lv_aload_n hx hb dL_law_171 rfl (lv_at hl 0 rfl) ?_
  refine lv_iload_n hx hb dL_law_172 rfl (lv_at hl 3 rfl) ?_
  refine lv_iconst (v := nI 1) hx hb dL_law_173 (by decide) ?_
  refine aj_iadd hx hb dL_law_174 ?_
  refine aj_sld hx hb hX hbl hbA hS (by omega) (by omega) dL_law_175 ?_
  refine lv_aload_n hx hb dL_law_176 rfl (lv_at hl 0 rfl) ?_
  refine lv_iload_n hx hb dL_law_177 rfl (lv_at hl 3 rfl) ?_
  refine lv_iconst (v := nI 2) hx hb dL_law_178 (by decide) ?_
  refine aj_iadd hx hb dL_law_179 ?_
  refine aj_sld hx hb hX hbl hbA hS (by omega) (by omega) dL_law_180 ?_
  refine lv_aload_n hx hb dL_law_181 rfl (lv_at hl 0 rfl) ?_
  refine lv_iload_n hx hb dL_law_182 rfl (lv_at hl 3 rfl) ?_
  refine lv_iconst (v := nI 3) hx hb dL_law_183 (by decide) ?_
  refine aj_iadd hx hb dL_law_184 ?_
  refine aj_sld hx hb hX hbl hbA hS (by omega) (by omega) dL_law_185 ?_
  refine aj_callW (A := fun q : Nat => s.heap.size ≤ q) (As := [.int (xs (i + 1)), .int (xs (i + 2)), .int (xs (i + 3))]) (rest := [.int v]) F hm aj_gL_X1_drop aj_hX1_drop ⟨Nat.le_of_ble_eq_true rfl, Nat.le_of_ble_eq_true rfl⟩ rfl rfl hKm hMM (aj_MM_recv hKm hMM) rfl hl.1 rfl (Nat.le_of_ble_eq_true rfl) ⟨Nat.le_refl _, Nat.le_refl _⟩ dL_law_186 hS (fun q h => aj_InA hAm h) (fun r H locs hB _ hk hS => ?_)
  obtain ⟨hr2, hMM⟩ := hB
  rw [hr2]
  have hCC := aj_CC_kept hCC hdis hk
  refine lv_icmp_eq (tgt := 513) hx hb dL_law_189 (by decide) (fun _ => ?_) (fun c9 => absurd rfl c9)
  refine lv_iinc (v := nI (i + 4)) (lv' := [(3, .int (nI (i + 4))), (0, .ref b), (1, .ref (ad 0)), (2, .ref (bd 0))]) hx hb dL_law_513 hl (k := 3) rfl (nI_add i 4) (by decide) rfl (fun ls hl => ?_)
  refine lv_goto (tgt := 18) hx hb dL_law_516 (by decide) ?_
  exact ih G' S' _ _ hCC hMM hS ls (lv_sub hl [1, 2, 3, 0] rfl)
set_option maxHeartbeats 4000000 in
set_option maxRecDepth 100000 in
theorem aj_law_clear {p : Program} {e : Env} {s : State} {m : MethodId} {below : List Frame} {meth : Method} {c : Code} (l : Launch) {b L : Nat} {xs : Nat → Int32} (hL : L ≤ 256) (C0 : lw_At p s m meth c b L xs) {D : va_G} {ad bd : Nat → Nat} {d d2 d3 : ClassId} (hKc : va_K D aj_cl [(d, .int)] s) (hKm : va_K D aj_cl [(d3, .int), (d2, .boolean)] s) (hC : aj_Ap 8 ad) (hM : aj_Ap 4 bd) (hdis : ∀ i j, i < 8 → j < 4 → ad i ≠ bd j) (hAc : ∀ i, i < 8 → s.heap.size ≤ ad i) (hAm : ∀ i, i < 4 → s.heap.size ≤ bd i) {i : Nat} {G : aj_T} {S : Nat → Int32} (hi : i + 4 ≤ L) (ih : ∀ (G : aj_T) (S : Nat → Int32) (H : Heap) (locs : List Loc), aj_CC D ad d G S H → aj_MM D bd d2 d3 G S H → va_S (fun q : Nat => s.heap.size ≤ q) s.heap H locs → ∀ (ls : Array Slot), lv_has ls 4 [(0, .ref b), (1, .ref (ad 0)), (2, .ref (bd 0)), (3, .int (nI (i + 4)))] → W p l e room_1 s m #[Value.ref b] below meth c H locs 600000 7290000 (lw_Z below #[Value.ref b] s) (F0 m 18 ls [])) {H : Heap} {locs : List Loc} (hCC : aj_CC D ad d G S H) (hMM : aj_MM D bd d2 d3 G S H) (hS : va_S (fun q : Nat => s.heap.size ≤ q) s.heap H locs) {ls : Array Slot} (hl : lv_has ls 4 [(0, .ref b), (1, .ref (ad 0)), (2, .ref (bd 0)), (3, .int (nI i))]) : W p l e room_1 s m #[Value.ref b] below meth c H locs 600000 7290000 (lw_Z below #[Value.ref b] s) (F0 m 194 ls []) := by
  obtain ⟨hx, hb, hr, hml, hown, hts0, hX, hbl, hlocks, hgv⟩ := id C0
  have hts : ∀ w ∈ lw_all, w.before #[Value.ref b] s = true := fun w h => hts0 w (lw_all_tbl h)
  have hbA : ¬ (fun q : Nat => s.heap.size ≤ q) b := Nat.not_le.mpr hbl
  have F : CallFix p m c code 4 s #[Value.ref b] lw_all "AcyclicJoinsLaw" := ⟨hx, hb, hml, hown, hts⟩
  obtain ⟨v, G', S', hc, hm⟩ := aj_op_clear l (D := D) (d := d) (d2 := d2) (d3 := d3) (G := G) (S := S) hC hM (xs (i + 1))
  refine lv_aload_n hx hb dL_law_194 rfl (lv_at hl 1 rfl) ?_
  refine lv_aload_n hx hb dL_law_195 rfl (lv_at hl 0 rfl) ?_
  refine lv_iload_n hx hb dL_law_196 rfl (lv_at hl 3 rfl) ?_
  refine lv_iconst (v := nI 1) hx hb dL_law_197 (by decide) ?_
  refine aj_iadd hx hb dL_law_198 ?_
  refine aj_sld hx hb hX hbl hbA hS (by omega) (by omega) dL_law_199 ?_
  refine aj_callW (A := fun q : Nat => s.heap.size ≤ q) (As := [.int (xs (i + 1))]) (rest := []) F hc aj_gL_X0_clear aj_hX0_clear ⟨Nat.le_of_ble_eq_true rfl, Nat.le_of_ble_eq_true rfl⟩ rfl rfl hKc hCC (aj_CC_recv hKc hCC) rfl hl.1 rfl (Nat.le_of_ble_eq_true rfl) ⟨Nat.le_refl _, Nat.le_refl _⟩ dL_law_200 hS (fun q h => aj_InA hAc h) (fun r H locs hB _ hk hS => ?_)
  obtain ⟨hr1, hCC⟩ := hB
  rw [hr1]
  have hMM := aj_MM_kept hMM hdis hk
  refine lv_aload_n hx hb dL_law_203 rfl (lv_at hl 2 rfl) ?_
  refine lv_aload_n hx hb dL_law_204 rfl (lv_at hl 0 rfl) ?_
  refine lv_iload_n hx hb dL_law_205 rfl (lv_at hl 3 rfl) ?_
  refine lv_iconst (v := nI 1) hx hb dL_law_206 (by decide) ?_
  refine aj_iadd hx hb dL_law_207 ?_
  refine aj_sld hx hb hX hbl hbA hS (by omega) (by omega) dL_law_208 ?_
  refine aj_callW (A := fun q : Nat => s.heap.size ≤ q) (As := [.int (xs (i + 1))]) (rest := [.int v]) F hm aj_gL_X1_clear aj_hX1_clear ⟨Nat.le_of_ble_eq_true rfl, Nat.le_of_ble_eq_true rfl⟩ rfl rfl hKm hMM (aj_MM_recv hKm hMM) rfl hl.1 rfl (Nat.le_of_ble_eq_true rfl) ⟨Nat.le_refl _, Nat.le_refl _⟩ dL_law_209 hS (fun q h => aj_InA hAm h) (fun r H locs hB _ hk hS => ?_)
  obtain ⟨hr2, hMM⟩ := hB
  rw [hr2]
  have hCC := aj_CC_kept hCC hdis hk
  refine lv_icmp_eq (tgt := 513) hx hb dL_law_212 (by decide) (fun _ => ?_) (fun c9 => absurd rfl c9)
  refine lv_iinc (v := nI (i + 4)) (lv' := [(3, .int (nI (i + 4))), (0, .ref b), (1, .ref (ad 0)), (2, .ref (bd 0))]) hx hb dL_law_513 hl (k := 3) rfl (nI_add i 4) (by decide) rfl (fun ls hl => ?_)
  refine lv_goto (tgt := 18) hx hb dL_law_516 (by decide) ?_
  exact ih G' S' _ _ hCC hMM hS ls (lv_sub hl [1, 2, 3, 0] rfl)
set_option maxHeartbeats 4000000 in
set_option maxRecDepth 100000 in
theorem aj_law_rows {p : Program} {e : Env} {s : State} {m : MethodId} {below : List Frame} {meth : Method} {c : Code} (l : Launch) {b L : Nat} {xs : Nat → Int32} (hL : L ≤ 256) (C0 : lw_At p s m meth c b L xs) {D : va_G} {ad bd : Nat → Nat} {d d2 d3 : ClassId} (hKc : va_K D aj_cl [(d, .int)] s) (hKm : va_K D aj_cl [(d3, .int), (d2, .boolean)] s) (hC : aj_Ap 8 ad) (hM : aj_Ap 4 bd) (hdis : ∀ i j, i < 8 → j < 4 → ad i ≠ bd j) (hAc : ∀ i, i < 8 → s.heap.size ≤ ad i) (hAm : ∀ i, i < 4 → s.heap.size ≤ bd i) {i : Nat} {G : aj_T} {S : Nat → Int32} (hi : i + 4 ≤ L) (ih : ∀ (G : aj_T) (S : Nat → Int32) (H : Heap) (locs : List Loc), aj_CC D ad d G S H → aj_MM D bd d2 d3 G S H → va_S (fun q : Nat => s.heap.size ≤ q) s.heap H locs → ∀ (ls : Array Slot), lv_has ls 4 [(0, .ref b), (1, .ref (ad 0)), (2, .ref (bd 0)), (3, .int (nI (i + 4)))] → W p l e room_1 s m #[Value.ref b] below meth c H locs 600000 7290000 (lw_Z below #[Value.ref b] s) (F0 m 18 ls [])) {H : Heap} {locs : List Loc} (hCC : aj_CC D ad d G S H) (hMM : aj_MM D bd d2 d3 G S H) (hS : va_S (fun q : Nat => s.heap.size ≤ q) s.heap H locs) {ls : Array Slot} (hl : lv_has ls 4 [(0, .ref b), (1, .ref (ad 0)), (2, .ref (bd 0)), (3, .int (nI i))]) : W p l e room_1 s m #[Value.ref b] below meth c H locs 600000 7290000 (lw_Z below #[Value.ref b] s) (F0 m 217 ls []) := by
  obtain ⟨hx, hb, hr, hml, hown, hts0, hX, hbl, hlocks, hgv⟩ := id C0
  have hts : ∀ w ∈ lw_all, w.before #[Value.ref b] s = true := fun w h => hts0 w (lw_all_tbl h)
  have hbA : ¬ (fun q : Nat => s.heap.size ≤ q) b := Nat.not_le.mpr hbl
  have F : CallFix p m c code 4 s #[Value.ref b] lw_all "AcyclicJoinsLaw" := ⟨hx, hb, hml, hown, hts⟩
  obtain ⟨v, G', S', hc, hm⟩ := aj_op_rows l (D := D) (d := d) (d2 := d2) (d3 := d3) (G := G) (S := S) hC hM (xs (i + 1))
  refine lv_aload_n hx hb dL_law_217 rfl (lv_at hl 1 rfl) ?_
  refine lv_aload_n hx hb dL_law_218 rfl (lv_at hl 0 rfl) ?_
  refine lv_iload_n hx hb dL_law_219 rfl (lv_at hl 3 rfl) ?_
  refine lv_iconst (v := nI 1) hx hb dL_law_220 (by decide) ?_
  refine aj_iadd hx hb dL_law_221 ?_
  refine aj_sld hx hb hX hbl hbA hS (by omega) (by omega) dL_law_222 ?_
  refine aj_callW (A := fun q : Nat => s.heap.size ≤ q) (As := [.int (xs (i + 1))]) (rest := []) F hc aj_gL_X0_rows aj_hX0_rows ⟨Nat.le_of_ble_eq_true rfl, Nat.le_of_ble_eq_true rfl⟩ rfl rfl hKc hCC (aj_CC_recv hKc hCC) rfl hl.1 rfl (Nat.le_of_ble_eq_true rfl) ⟨Nat.le_refl _, Nat.le_refl _⟩ dL_law_223 hS (fun q h => aj_InA hAc h) (fun r H locs hB _ hk hS => ?_)
  obtain ⟨hr1, hCC⟩ := hB
  rw [hr1]
  have hMM := aj_MM_kept hMM hdis hk
  refine lv_aload_n hx hb dL_law_226 rfl (lv_at hl 2 rfl) ?_
  refine lv_aload_n hx hb dL_law_227 rfl (lv_at hl 0 rfl) ?_
  refine lv_iload_n hx hb dL_law_228 rfl (lv_at hl 3 rfl) ?_
  refine lv_iconst (v := nI 1) hx hb dL_law_229 (by decide) ?_
  refine aj_iadd hx hb dL_law_230 ?_
  refine aj_sld hx hb hX hbl hbA hS (by omega) (by omega) dL_law_231 ?_
  refine aj_callW (A := fun q : Nat => s.heap.size ≤ q) (As := [.int (xs (i + 1))]) (rest := [.int v]) F hm aj_gL_X1_rows aj_hX1_rows ⟨Nat.le_of_ble_eq_true rfl, Nat.le_of_ble_eq_true rfl⟩ rfl rfl hKm hMM (aj_MM_recv hKm hMM) rfl hl.1 rfl (Nat.le_of_ble_eq_true rfl) ⟨Nat.le_refl _, Nat.le_refl _⟩ dL_law_232 hS (fun q h => aj_InA hAm h) (fun r H locs hB _ hk hS => ?_)
  obtain ⟨hr2, hMM⟩ := hB
  rw [hr2]
  have hCC := aj_CC_kept hCC hdis hk
  refine lv_icmp_eq (tgt := 513) hx hb dL_law_235 (by decide) (fun _ => ?_) (fun c9 => absurd rfl c9)
  refine lv_iinc (v := nI (i + 4)) (lv' := [(3, .int (nI (i + 4))), (0, .ref b), (1, .ref (ad 0)), (2, .ref (bd 0))]) hx hb dL_law_513 hl (k := 3) rfl (nI_add i 4) (by decide) rfl (fun ls hl => ?_)
  refine lv_goto (tgt := 18) hx hb dL_law_516 (by decide) ?_
  exact ih G' S' _ _ hCC hMM hS ls (lv_sub hl [1, 2, 3, 0] rfl)
set_option maxHeartbeats 4000000 in
set_option maxRecDepth 100000 in
theorem aj_law_count {p : Program} {e : Env} {s : State} {m : MethodId} {below : List Frame} {meth : Method} {c : Code} (l : Launch) {b L : Nat} {xs : Nat → Int32} (hL : L ≤ 256) (C0 : lw_At p s m meth c b L xs) {D : va_G} {ad bd : Nat → Nat} {d d2 d3 : ClassId} (hKc : va_K D aj_cl [(d, .int)] s) (hKm : va_K D aj_cl [(d3, .int), (d2, .boolean)] s) (hC : aj_Ap 8 ad) (hM : aj_Ap 4 bd) (hdis : ∀ i j, i < 8 → j < 4 → ad i ≠ bd j) (hAc : ∀ i, i < 8 → s.heap.size ≤ ad i) (hAm : ∀ i, i < 4 → s.heap.size ≤ bd i) {i : Nat} {G : aj_T} {S : Nat → Int32} (hi : i + 4 ≤ L) (ih : ∀ (G : aj_T) (S : Nat → Int32) (H : Heap) (locs : List Loc), aj_CC D ad d G S H → aj_MM D bd d2 d3 G S H → va_S (fun q : Nat => s.heap.size ≤ q) s.heap H locs → ∀ (ls : Array Slot), lv_has ls 4 [(0, .ref b), (1, .ref (ad 0)), (2, .ref (bd 0)), (3, .int (nI (i + 4)))] → W p l e room_1 s m #[Value.ref b] below meth c H locs 600000 7290000 (lw_Z below #[Value.ref b] s) (F0 m 18 ls [])) {H : Heap} {locs : List Loc} (hCC : aj_CC D ad d G S H) (hMM : aj_MM D bd d2 d3 G S H) (hS : va_S (fun q : Nat => s.heap.size ≤ q) s.heap H locs) {ls : Array Slot} (hl : lv_has ls 4 [(0, .ref b), (1, .ref (ad 0)), (2, .ref (bd 0)), (3, .int (nI i))]) : W p l e room_1 s m #[Value.ref b] below meth c H locs 600000 7290000 (lw_Z below #[Value.ref b] s) (F0 m 240 ls []) := by
  obtain ⟨hx, hb, hr, hml, hown, hts0, hX, hbl, hlocks, hgv⟩ := id C0
  have hts : ∀ w ∈ lw_all, w.before #[Value.ref b] s = true := fun w h => hts0 w (lw_all_tbl h)
  have hbA : ¬ (fun q : Nat => s.heap.size ≤ q) b := Nat.not_le.mpr hbl
  have F : CallFix p m c code 4 s #[Value.ref b] lw_all "AcyclicJoinsLaw" := ⟨hx, hb, hml, hown, hts⟩
  obtain ⟨v, G', S', hc, hm⟩ := aj_op_count l (D := D) (d := d) (d2 := d2) (d3 := d3) (G := G) (S := S) hC hM 
  refine lv_aload_n hx hb dL_law_240 rfl (lv_at hl 1 rfl) ?_
  refine aj_callW (A := fun q : Nat => s.heap.size ≤ q) (As := []) (rest := []) F hc aj_gL_X0_count aj_hX0_count ⟨Nat.le_of_ble_eq_true rfl, Nat.le_of_ble_eq_true rfl⟩ rfl rfl hKc hCC (aj_CC_recv hKc hCC) rfl hl.1 rfl (Nat.le_of_ble_eq_true rfl) ⟨Nat.le_refl _, Nat.le_refl _⟩ dL_law_241 hS (fun q h => aj_InA hAc h) (fun r H locs hB _ hk hS => ?_)
  obtain ⟨hr1, hCC⟩ := hB
  rw [hr1]
  have hMM := aj_MM_kept hMM hdis hk
  refine lv_aload_n hx hb dL_law_244 rfl (lv_at hl 2 rfl) ?_
  refine aj_callW (A := fun q : Nat => s.heap.size ≤ q) (As := []) (rest := [.int v]) F hm aj_gL_X1_count aj_hX1_count ⟨Nat.le_of_ble_eq_true rfl, Nat.le_of_ble_eq_true rfl⟩ rfl rfl hKm hMM (aj_MM_recv hKm hMM) rfl hl.1 rfl (Nat.le_of_ble_eq_true rfl) ⟨Nat.le_refl _, Nat.le_refl _⟩ dL_law_245 hS (fun q h => aj_InA hAm h) (fun r H locs hB _ hk hS => ?_)
  obtain ⟨hr2, hMM⟩ := hB
  rw [hr2]
  have hCC := aj_CC_kept hCC hdis hk
  refine lv_icmp_eq (tgt := 513) hx hb dL_law_248 (by decide) (fun _ => ?_) (fun c9 => absurd rfl c9)
  refine lv_iinc (v := nI (i + 4)) (lv' := [(3, .int (nI (i + 4))), (0, .ref b), (1, .ref (ad 0)), (2, .ref (bd 0))]) hx hb dL_law_513 hl (k := 3) rfl (nI_add i 4) (by decide) rfl (fun ls hl => ?_)
  refine lv_goto (tgt := 18) hx hb dL_law_516 (by decide) ?_
  exact ih G' S' _ _ hCC hMM hS ls (lv_sub hl [1, 2, 3, 0] rfl)
set_option maxHeartbeats 4000000 in
set_option maxRecDepth 100000 in
theorem aj_law_answer {p : Program} {e : Env} {s : State} {m : MethodId} {below : List Frame} {meth : Method} {c : Code} (l : Launch) {b L : Nat} {xs : Nat → Int32} (hL : L ≤ 256) (C0 : lw_At p s m meth c b L xs) {D : va_G} {ad bd : Nat → Nat} {d d2 d3 : ClassId} (hKc : va_K D aj_cl [(d, .int)] s) (hKm : va_K D aj_cl [(d3, .int), (d2, .boolean)] s) (hC : aj_Ap 8 ad) (hM : aj_Ap 4 bd) (hdis : ∀ i j, i < 8 → j < 4 → ad i ≠ bd j) (hAc : ∀ i, i < 8 → s.heap.size ≤ ad i) (hAm : ∀ i, i < 4 → s.heap.size ≤ bd i) {i : Nat} {G : aj_T} {S : Nat → Int32} (hi : i + 4 ≤ L) (ih : ∀ (G : aj_T) (S : Nat → Int32) (H : Heap) (locs : List Loc), aj_CC D ad d G S H → aj_MM D bd d2 d3 G S H → va_S (fun q : Nat => s.heap.size ≤ q) s.heap H locs → ∀ (ls : Array Slot), lv_has ls 4 [(0, .ref b), (1, .ref (ad 0)), (2, .ref (bd 0)), (3, .int (nI (i + 4)))] → W p l e room_1 s m #[Value.ref b] below meth c H locs 600000 7290000 (lw_Z below #[Value.ref b] s) (F0 m 18 ls [])) {H : Heap} {locs : List Loc} (hCC : aj_CC D ad d G S H) (hMM : aj_MM D bd d2 d3 G S H) (hS : va_S (fun q : Nat => s.heap.size ≤ q) s.heap H locs) {ls : Array Slot} (hl : lv_has ls 4 [(0, .ref b), (1, .ref (ad 0)), (2, .ref (bd 0)), (3, .int (nI i))]) : W p l e room_1 s m #[Value.ref b] below meth c H locs 600000 7290000 (lw_Z below #[Value.ref b] s) (F0 m 253 ls []) := by
  obtain ⟨hx, hb, hr, hml, hown, hts0, hX, hbl, hlocks, hgv⟩ := id C0
  have hts : ∀ w ∈ lw_all, w.before #[Value.ref b] s = true := fun w h => hts0 w (lw_all_tbl h)
  have hbA : ¬ (fun q : Nat => s.heap.size ≤ q) b := Nat.not_le.mpr hbl
  have F : CallFix p m c code 4 s #[Value.ref b] lw_all "AcyclicJoinsLaw" := ⟨hx, hb, hml, hown, hts⟩
  obtain ⟨v, G', S', hc, hm⟩ := aj_op_answer l (D := D) (d := d) (d2 := d2) (d3 := d3) (G := G) (S := S) hC hM (xs (i + 1))
  refine lv_aload_n hx hb dL_law_253 rfl (lv_at hl 1 rfl) ?_
  refine lv_aload_n hx hb dL_law_254 rfl (lv_at hl 0 rfl) ?_
  refine lv_iload_n hx hb dL_law_255 rfl (lv_at hl 3 rfl) ?_
  refine lv_iconst (v := nI 1) hx hb dL_law_256 (by decide) ?_
  refine aj_iadd hx hb dL_law_257 ?_
  refine aj_sld hx hb hX hbl hbA hS (by omega) (by omega) dL_law_258 ?_
  refine aj_callW (A := fun q : Nat => s.heap.size ≤ q) (As := [.int (xs (i + 1))]) (rest := []) F hc aj_gL_X0_answer aj_hX0_answer ⟨Nat.le_of_ble_eq_true rfl, Nat.le_of_ble_eq_true rfl⟩ rfl rfl hKc hCC (aj_CC_recv hKc hCC) rfl hl.1 rfl (Nat.le_of_ble_eq_true rfl) ⟨Nat.le_refl _, Nat.le_refl _⟩ dL_law_259 hS (fun q h => aj_InA hAc h) (fun r H locs hB _ hk hS => ?_)
  obtain ⟨hr1, hCC⟩ := hB
  rw [hr1]
  have hMM := aj_MM_kept hMM hdis hk
  refine lv_aload_n hx hb dL_law_262 rfl (lv_at hl 2 rfl) ?_
  refine lv_aload_n hx hb dL_law_263 rfl (lv_at hl 0 rfl) ?_
  refine lv_iload_n hx hb dL_law_264 rfl (lv_at hl 3 rfl) ?_
  refine lv_iconst (v := nI 1) hx hb dL_law_265 (by decide) ?_
  refine aj_iadd hx hb dL_law_266 ?_
  refine aj_sld hx hb hX hbl hbA hS (by omega) (by omega) dL_law_267 ?_
  refine aj_callW (A := fun q : Nat => s.heap.size ≤ q) (As := [.int (xs (i + 1))]) (rest := [.int v]) F hm aj_gL_X1_answer aj_hX1_answer ⟨Nat.le_of_ble_eq_true rfl, Nat.le_of_ble_eq_true rfl⟩ rfl rfl hKm hMM (aj_MM_recv hKm hMM) rfl hl.1 rfl (Nat.le_of_ble_eq_true rfl) ⟨Nat.le_refl _, Nat.le_refl _⟩ dL_law_268 hS (fun q h => aj_InA hAm h) (fun r H locs hB _ hk hS => ?_)
  obtain ⟨hr2, hMM⟩ := hB
  rw [hr2]
  have hCC := aj_CC_kept hCC hdis hk
  refine lv_icmp_eq (tgt := 513) hx hb dL_law_271 (by decide) (fun _ => ?_) (fun c9 => absurd rfl c9)
  refine lv_iinc (v := nI (i + 4)) (lv' := [(3, .int (nI (i + 4))), (0, .ref b), (1, .ref (ad 0)), (2, .ref (bd 0))]) hx hb dL_law_513 hl (k := 3) rfl (nI_add i 4) (by decide) rfl (fun ls hl => ?_)
  refine lv_goto (tgt := 18) hx hb dL_law_516 (by decide) ?_
  exact ih G' S' _ _ hCC hMM hS ls (lv_sub hl [1, 2, 3, 0] rfl)
set_option maxHeartbeats 4000000 in
set_option maxRecDepth 100000 in
theorem aj_law_has {p : Program} {e : Env} {s : State} {m : MethodId} {below : List Frame} {meth : Method} {c : Code} (l : Launch) {b L : Nat} {xs : Nat → Int32} (hL : L ≤ 256) (C0 : lw_At p s m meth c b L xs) {D : va_G} {ad bd : Nat → Nat} {d d2 d3 : ClassId} (hKc : va_K D aj_cl [(d, .int)] s) (hKm : va_K D aj_cl [(d3, .int), (d2, .boolean)] s) (hC : aj_Ap 8 ad) (hM : aj_Ap 4 bd) (hdis : ∀ i j, i < 8 → j < 4 → ad i ≠ bd j) (hAc : ∀ i, i < 8 → s.heap.size ≤ ad i) (hAm : ∀ i, i < 4 → s.heap.size ≤ bd i) {i : Nat} {G : aj_T} {S : Nat → Int32} (hi : i + 4 ≤ L) (ih : ∀ (G : aj_T) (S : Nat → Int32) (H : Heap) (locs : List Loc), aj_CC D ad d G S H → aj_MM D bd d2 d3 G S H → va_S (fun q : Nat => s.heap.size ≤ q) s.heap H locs → ∀ (ls : Array Slot), lv_has ls 4 [(0, .ref b), (1, .ref (ad 0)), (2, .ref (bd 0)), (3, .int (nI (i + 4)))] → W p l e room_1 s m #[Value.ref b] below meth c H locs 600000 7290000 (lw_Z below #[Value.ref b] s) (F0 m 18 ls [])) {H : Heap} {locs : List Loc} (hCC : aj_CC D ad d G S H) (hMM : aj_MM D bd d2 d3 G S H) (hS : va_S (fun q : Nat => s.heap.size ≤ q) s.heap H locs) {ls : Array Slot} (hl : lv_has ls 4 [(0, .ref b), (1, .ref (ad 0)), (2, .ref (bd 0)), (3, .int (nI i))]) : W p l e room_1 s m #[Value.ref b] below meth c H locs 600000 7290000 (lw_Z below #[Value.ref b] s) (F0 m 276 ls []) := by
  obtain ⟨hx, hb, hr, hml, hown, hts0, hX, hbl, hlocks, hgv⟩ := id C0
  have hts : ∀ w ∈ lw_all, w.before #[Value.ref b] s = true := fun w h => hts0 w (lw_all_tbl h)
  have hbA : ¬ (fun q : Nat => s.heap.size ≤ q) b := Nat.not_le.mpr hbl
  have F : CallFix p m c code 4 s #[Value.ref b] lw_all "AcyclicJoinsLaw" := ⟨hx, hb, hml, hown, hts⟩
  obtain ⟨v, G', S', hc, hm⟩ := aj_op_has l (D := D) (d := d) (d2 := d2) (d3 := d3) (G := G) (S := S) hC hM (xs (i + 1))
  refine lv_aload_n hx hb dL_law_276 rfl (lv_at hl 1 rfl) ?_
  refine lv_aload_n hx hb dL_law_277 rfl (lv_at hl 0 rfl) ?_
  refine lv_iload_n hx hb dL_law_278 rfl (lv_at hl 3 rfl) ?_
  refine lv_iconst (v := nI 1) hx hb dL_law_279 (by decide) ?_
  refine aj_iadd hx hb dL_law_280 ?_
  refine aj_sld hx hb hX hbl hbA hS (by omega) (by omega) dL_law_281 ?_
  refine aj_callW (A := fun q : Nat => s.heap.size ≤ q) (As := [.int (xs (i + 1))]) (rest := []) F hc aj_gL_X0_has aj_hX0_has ⟨Nat.le_of_ble_eq_true rfl, Nat.le_of_ble_eq_true rfl⟩ rfl rfl hKc hCC (aj_CC_recv hKc hCC) rfl hl.1 rfl (Nat.le_of_ble_eq_true rfl) ⟨Nat.le_refl _, Nat.le_refl _⟩ dL_law_282 hS (fun q h => aj_InA hAc h) (fun r H locs hB _ hk hS => ?_)
  obtain ⟨hr1, hCC⟩ := hB
  rw [hr1]
  have hMM := aj_MM_kept hMM hdis hk
  refine lv_aload_n hx hb dL_law_285 rfl (lv_at hl 2 rfl) ?_
  refine lv_aload_n hx hb dL_law_286 rfl (lv_at hl 0 rfl) ?_
  refine lv_iload_n hx hb dL_law_287 rfl (lv_at hl 3 rfl) ?_
  refine lv_iconst (v := nI 1) hx hb dL_law_288 (by decide) ?_
  refine aj_iadd hx hb dL_law_289 ?_
  refine aj_sld hx hb hX hbl hbA hS (by omega) (by omega) dL_law_290 ?_
  refine aj_callW (A := fun q : Nat => s.heap.size ≤ q) (As := [.int (xs (i + 1))]) (rest := [.int v]) F hm aj_gL_X1_has aj_hX1_has ⟨Nat.le_of_ble_eq_true rfl, Nat.le_of_ble_eq_true rfl⟩ rfl rfl hKm hMM (aj_MM_recv hKm hMM) rfl hl.1 rfl (Nat.le_of_ble_eq_true rfl) ⟨Nat.le_refl _, Nat.le_refl _⟩ dL_law_291 hS (fun q h => aj_InA hAm h) (fun r H locs hB _ hk hS => ?_)
  obtain ⟨hr2, hMM⟩ := hB
  rw [hr2]
  have hCC := aj_CC_kept hCC hdis hk
  refine lv_icmp_eq (tgt := 513) hx hb dL_law_294 (by decide) (fun _ => ?_) (fun c9 => absurd rfl c9)
  refine lv_iinc (v := nI (i + 4)) (lv' := [(3, .int (nI (i + 4))), (0, .ref b), (1, .ref (ad 0)), (2, .ref (bd 0))]) hx hb dL_law_513 hl (k := 3) rfl (nI_add i 4) (by decide) rfl (fun ls hl => ?_)
  refine lv_goto (tgt := 18) hx hb dL_law_516 (by decide) ?_
  exact ih G' S' _ _ hCC hMM hS ls (lv_sub hl [1, 2, 3, 0] rfl)
set_option maxHeartbeats 4000000 in
set_option maxRecDepth 100000 in
theorem aj_law_rank {p : Program} {e : Env} {s : State} {m : MethodId} {below : List Frame} {meth : Method} {c : Code} (l : Launch) {b L : Nat} {xs : Nat → Int32} (hL : L ≤ 256) (C0 : lw_At p s m meth c b L xs) {D : va_G} {ad bd : Nat → Nat} {d d2 d3 : ClassId} (hKc : va_K D aj_cl [(d, .int)] s) (hKm : va_K D aj_cl [(d3, .int), (d2, .boolean)] s) (hC : aj_Ap 8 ad) (hM : aj_Ap 4 bd) (hdis : ∀ i j, i < 8 → j < 4 → ad i ≠ bd j) (hAc : ∀ i, i < 8 → s.heap.size ≤ ad i) (hAm : ∀ i, i < 4 → s.heap.size ≤ bd i) {i : Nat} {G : aj_T} {S : Nat → Int32} (hi : i + 4 ≤ L) (ih : ∀ (G : aj_T) (S : Nat → Int32) (H : Heap) (locs : List Loc), aj_CC D ad d G S H → aj_MM D bd d2 d3 G S H → va_S (fun q : Nat => s.heap.size ≤ q) s.heap H locs → ∀ (ls : Array Slot), lv_has ls 4 [(0, .ref b), (1, .ref (ad 0)), (2, .ref (bd 0)), (3, .int (nI (i + 4)))] → W p l e room_1 s m #[Value.ref b] below meth c H locs 600000 7290000 (lw_Z below #[Value.ref b] s) (F0 m 18 ls [])) {H : Heap} {locs : List Loc} (hCC : aj_CC D ad d G S H) (hMM : aj_MM D bd d2 d3 G S H) (hS : va_S (fun q : Nat => s.heap.size ≤ q) s.heap H locs) {ls : Array Slot} (hl : lv_has ls 4 [(0, .ref b), (1, .ref (ad 0)), (2, .ref (bd 0)), (3, .int (nI i))]) : W p l e room_1 s m #[Value.ref b] below meth c H locs 600000 7290000 (lw_Z below #[Value.ref b] s) (F0 m 299 ls []) := by
  obtain ⟨hx, hb, hr, hml, hown, hts0, hX, hbl, hlocks, hgv⟩ := id C0
  have hts : ∀ w ∈ lw_all, w.before #[Value.ref b] s = true := fun w h => hts0 w (lw_all_tbl h)
  have hbA : ¬ (fun q : Nat => s.heap.size ≤ q) b := Nat.not_le.mpr hbl
  have F : CallFix p m c code 4 s #[Value.ref b] lw_all "AcyclicJoinsLaw" := ⟨hx, hb, hml, hown, hts⟩
  obtain ⟨v, G', S', hc, hm⟩ := aj_op_rank l (D := D) (d := d) (d2 := d2) (d3 := d3) (G := G) (S := S) hC hM (xs (i + 1))
  refine lv_aload_n hx hb dL_law_299 rfl (lv_at hl 1 rfl) ?_
  refine lv_aload_n hx hb dL_law_300 rfl (lv_at hl 0 rfl) ?_
  refine lv_iload_n hx hb dL_law_301 rfl (lv_at hl 3 rfl) ?_
  refine lv_iconst (v := nI 1) hx hb dL_law_302 (by decide) ?_
  refine aj_iadd hx hb dL_law_303 ?_
  refine aj_sld hx hb hX hbl hbA hS (by omega) (by omega) dL_law_304 ?_
  refine aj_callW (A := fun q : Nat => s.heap.size ≤ q) (As := [.int (xs (i + 1))]) (rest := []) F hc aj_gL_X0_rank aj_hX0_rank ⟨Nat.le_of_ble_eq_true rfl, Nat.le_of_ble_eq_true rfl⟩ rfl rfl hKc hCC (aj_CC_recv hKc hCC) rfl hl.1 rfl (Nat.le_of_ble_eq_true rfl) ⟨Nat.le_refl _, Nat.le_refl _⟩ dL_law_305 hS (fun q h => aj_InA hAc h) (fun r H locs hB _ hk hS => ?_)
  obtain ⟨hr1, hCC⟩ := hB
  rw [hr1]
  have hMM := aj_MM_kept hMM hdis hk
  refine lv_aload_n hx hb dL_law_308 rfl (lv_at hl 2 rfl) ?_
  refine lv_aload_n hx hb dL_law_309 rfl (lv_at hl 0 rfl) ?_
  refine lv_iload_n hx hb dL_law_310 rfl (lv_at hl 3 rfl) ?_
  refine lv_iconst (v := nI 1) hx hb dL_law_311 (by decide) ?_
  refine aj_iadd hx hb dL_law_312 ?_
  refine aj_sld hx hb hX hbl hbA hS (by omega) (by omega) dL_law_313 ?_
  refine aj_callW (A := fun q : Nat => s.heap.size ≤ q) (As := [.int (xs (i + 1))]) (rest := [.int v]) F hm aj_gL_X1_rank aj_hX1_rank ⟨Nat.le_of_ble_eq_true rfl, Nat.le_of_ble_eq_true rfl⟩ rfl rfl hKm hMM (aj_MM_recv hKm hMM) rfl hl.1 rfl (Nat.le_of_ble_eq_true rfl) ⟨Nat.le_refl _, Nat.le_refl _⟩ dL_law_314 hS (fun q h => aj_InA hAm h) (fun r H locs hB _ hk hS => ?_)
  obtain ⟨hr2, hMM⟩ := hB
  rw [hr2]
  have hCC := aj_CC_kept hCC hdis hk
  refine lv_icmp_eq (tgt := 513) hx hb dL_law_317 (by decide) (fun _ => ?_) (fun c9 => absurd rfl c9)
  refine lv_iinc (v := nI (i + 4)) (lv' := [(3, .int (nI (i + 4))), (0, .ref b), (1, .ref (ad 0)), (2, .ref (bd 0))]) hx hb dL_law_513 hl (k := 3) rfl (nI_add i 4) (by decide) rfl (fun ls hl => ?_)
  refine lv_goto (tgt := 18) hx hb dL_law_516 (by decide) ?_
  exact ih G' S' _ _ hCC hMM hS ls (lv_sub hl [1, 2, 3, 0] rfl)
set_option maxHeartbeats 4000000 in
set_option maxRecDepth 100000 in
theorem aj_law_useful {p : Program} {e : Env} {s : State} {m : MethodId} {below : List Frame} {meth : Method} {c : Code} (l : Launch) {b L : Nat} {xs : Nat → Int32} (hL : L ≤ 256) (C0 : lw_At p s m meth c b L xs) {D : va_G} {ad bd : Nat → Nat} {d d2 d3 : ClassId} (hKc : va_K D aj_cl [(d, .int)] s) (hKm : va_K D aj_cl [(d3, .int), (d2, .boolean)] s) (hC : aj_Ap 8 ad) (hM : aj_Ap 4 bd) (hdis : ∀ i j, i < 8 → j < 4 → ad i ≠ bd j) (hAc : ∀ i, i < 8 → s.heap.size ≤ ad i) (hAm : ∀ i, i < 4 → s.heap.size ≤ bd i) {i : Nat} {G : aj_T} {S : Nat → Int32} (hi : i + 4 ≤ L) (ih : ∀ (G : aj_T) (S : Nat → Int32) (H : Heap) (locs : List Loc), aj_CC D ad d G S H → aj_MM D bd d2 d3 G S H → va_S (fun q : Nat => s.heap.size ≤ q) s.heap H locs → ∀ (ls : Array Slot), lv_has ls 4 [(0, .ref b), (1, .ref (ad 0)), (2, .ref (bd 0)), (3, .int (nI (i + 4)))] → W p l e room_1 s m #[Value.ref b] below meth c H locs 600000 7290000 (lw_Z below #[Value.ref b] s) (F0 m 18 ls [])) {H : Heap} {locs : List Loc} (hCC : aj_CC D ad d G S H) (hMM : aj_MM D bd d2 d3 G S H) (hS : va_S (fun q : Nat => s.heap.size ≤ q) s.heap H locs) {ls : Array Slot} (hl : lv_has ls 4 [(0, .ref b), (1, .ref (ad 0)), (2, .ref (bd 0)), (3, .int (nI i))]) : W p l e room_1 s m #[Value.ref b] below meth c H locs 600000 7290000 (lw_Z below #[Value.ref b] s) (F0 m 322 ls []) := by
  obtain ⟨hx, hb, hr, hml, hown, hts0, hX, hbl, hlocks, hgv⟩ := id C0
  have hts : ∀ w ∈ lw_all, w.before #[Value.ref b] s = true := fun w h => hts0 w (lw_all_tbl h)
  have hbA : ¬ (fun q : Nat => s.heap.size ≤ q) b := Nat.not_le.mpr hbl
  have F : CallFix p m c code 4 s #[Value.ref b] lw_all "AcyclicJoinsLaw" := ⟨hx, hb, hml, hown, hts⟩
  obtain ⟨v, G', S', hc, hm⟩ := aj_op_useful l (D := D) (d := d) (d2 := d2) (d3 := d3) (G := G) (S := S) hC hM (xs (i + 1))
  refine lv_aload_n hx hb dL_law_322 rfl (lv_at hl 1 rfl) ?_
  refine lv_aload_n hx hb dL_law_323 rfl (lv_at hl 0 rfl) ?_
  refine lv_iload_n hx hb dL_law_324 rfl (lv_at hl 3 rfl) ?_
  refine lv_iconst (v := nI 1) hx hb dL_law_325 (by decide) ?_
  refine aj_iadd hx hb dL_law_326 ?_
  refine aj_sld hx hb hX hbl hbA hS (by omega) (by omega) dL_law_327 ?_
  refine aj_callW (A := fun q : Nat => s.heap.size ≤ q) (As := [.int (xs (i + 1))]) (rest := []) F hc aj_gL_X0_useful aj_hX0_useful ⟨Nat.le_of_ble_eq_true rfl, Nat.le_of_ble_eq_true rfl⟩ rfl rfl hKc hCC (aj_CC_recv hKc hCC) rfl hl.1 rfl (Nat.le_of_ble_eq_true rfl) ⟨Nat.le_refl _, Nat.le_refl _⟩ dL_law_328 hS (fun q h => aj_InA hAc h) (fun r H locs hB _ hk hS => ?_)
  obtain ⟨hr1, hCC⟩ := hB
  rw [hr1]
  have hMM := aj_MM_kept hMM hdis hk
  refine lv_aload_n hx hb dL_law_331 rfl (lv_at hl 2 rfl) ?_
  refine lv_aload_n hx hb dL_law_332 rfl (lv_at hl 0 rfl) ?_
  refine lv_iload_n hx hb dL_law_333 rfl (lv_at hl 3 rfl) ?_
  refine lv_iconst (v := nI 1) hx hb dL_law_334 (by decide) ?_
  refine aj_iadd hx hb dL_law_335 ?_
  refine aj_sld hx hb hX hbl hbA hS (by omega) (by omega) dL_law_336 ?_
  refine aj_callW (A := fun q : Nat => s.heap.size ≤ q) (As := [.int (xs (i + 1))]) (rest := [.int v]) F hm aj_gL_X1_useful aj_hX1_useful ⟨Nat.le_of_ble_eq_true rfl, Nat.le_of_ble_eq_true rfl⟩ rfl rfl hKm hMM (aj_MM_recv hKm hMM) rfl hl.1 rfl (Nat.le_of_ble_eq_true rfl) ⟨Nat.le_refl _, Nat.le_refl _⟩ dL_law_337 hS (fun q h => aj_InA hAm h) (fun r H locs hB _ hk hS => ?_)
  obtain ⟨hr2, hMM⟩ := hB
  rw [hr2]
  have hCC := aj_CC_kept hCC hdis hk
  refine lv_icmp_eq (tgt := 513) hx hb dL_law_340 (by decide) (fun _ => ?_) (fun c9 => absurd rfl c9)
  refine lv_iinc (v := nI (i + 4)) (lv' := [(3, .int (nI (i + 4))), (0, .ref b), (1, .ref (ad 0)), (2, .ref (bd 0))]) hx hb dL_law_513 hl (k := 3) rfl (nI_add i 4) (by decide) rfl (fun ls hl => ?_)
  refine lv_goto (tgt := 18) hx hb dL_law_516 (by decide) ?_
  exact ih G' S' _ _ hCC hMM hS ls (lv_sub hl [1, 2, 3, 0] rfl)
set_option maxHeartbeats 4000000 in
set_option maxRecDepth 100000 in
theorem aj_law_weight {p : Program} {e : Env} {s : State} {m : MethodId} {below : List Frame} {meth : Method} {c : Code} (l : Launch) {b L : Nat} {xs : Nat → Int32} (hL : L ≤ 256) (C0 : lw_At p s m meth c b L xs) {D : va_G} {ad bd : Nat → Nat} {d d2 d3 : ClassId} (hKc : va_K D aj_cl [(d, .int)] s) (hKm : va_K D aj_cl [(d3, .int), (d2, .boolean)] s) (hC : aj_Ap 8 ad) (hM : aj_Ap 4 bd) (hdis : ∀ i j, i < 8 → j < 4 → ad i ≠ bd j) (hAc : ∀ i, i < 8 → s.heap.size ≤ ad i) (hAm : ∀ i, i < 4 → s.heap.size ≤ bd i) {i : Nat} {G : aj_T} {S : Nat → Int32} (hi : i + 4 ≤ L) (ih : ∀ (G : aj_T) (S : Nat → Int32) (H : Heap) (locs : List Loc), aj_CC D ad d G S H → aj_MM D bd d2 d3 G S H → va_S (fun q : Nat => s.heap.size ≤ q) s.heap H locs → ∀ (ls : Array Slot), lv_has ls 4 [(0, .ref b), (1, .ref (ad 0)), (2, .ref (bd 0)), (3, .int (nI (i + 4)))] → W p l e room_1 s m #[Value.ref b] below meth c H locs 600000 7290000 (lw_Z below #[Value.ref b] s) (F0 m 18 ls [])) {H : Heap} {locs : List Loc} (hCC : aj_CC D ad d G S H) (hMM : aj_MM D bd d2 d3 G S H) (hS : va_S (fun q : Nat => s.heap.size ≤ q) s.heap H locs) {ls : Array Slot} (hl : lv_has ls 4 [(0, .ref b), (1, .ref (ad 0)), (2, .ref (bd 0)), (3, .int (nI i))]) : W p l e room_1 s m #[Value.ref b] below meth c H locs 600000 7290000 (lw_Z below #[Value.ref b] s) (F0 m 345 ls []) := by
  obtain ⟨hx, hb, hr, hml, hown, hts0, hX, hbl, hlocks, hgv⟩ := id C0
  have hts : ∀ w ∈ lw_all, w.before #[Value.ref b] s = true := fun w h => hts0 w (lw_all_tbl h)
  have hbA : ¬ (fun q : Nat => s.heap.size ≤ q) b := Nat.not_le.mpr hbl
  have F : CallFix p m c code 4 s #[Value.ref b] lw_all "AcyclicJoinsLaw" := ⟨hx, hb, hml, hown, hts⟩
  obtain ⟨v, G', S', hc, hm⟩ := aj_op_weight l (D := D) (d := d) (d2 := d2) (d3 := d3) (G := G) (S := S) hC hM (xs (i + 1)) (xs (i + 2)) (xs (i + 3))
  refine lv_aload_n hx hb dL_law_345 rfl (lv_at hl 1 rfl) ?_
  refine lv_aload_n hx hb dL_law_346 rfl (lv_at hl 0 rfl) ?_
  refine lv_iload_n hx hb dL_law_347 rfl (lv_at hl 3 rfl) ?_
  refine lv_iconst (v := nI 1) hx hb dL_law_348 (by decide) ?_
  refine aj_iadd hx hb dL_law_349 ?_
  refine aj_sld hx hb hX hbl hbA hS (by omega) (by omega) dL_law_350 ?_
  refine lv_aload_n hx hb dL_law_351 rfl (lv_at hl 0 rfl) ?_
  refine lv_iload_n hx hb dL_law_352 rfl (lv_at hl 3 rfl) ?_
  refine lv_iconst (v := nI 2) hx hb dL_law_353 (by decide) ?_
  refine aj_iadd hx hb dL_law_354 ?_
  refine aj_sld hx hb hX hbl hbA hS (by omega) (by omega) dL_law_355 ?_
  refine lv_aload_n hx hb dL_law_356 rfl (lv_at hl 0 rfl) ?_
  refine lv_iload_n hx hb dL_law_357 rfl (lv_at hl 3 rfl) ?_
  refine lv_iconst (v := nI 3) hx hb dL_law_358 (by decide) ?_
  refine aj_iadd hx hb dL_law_359 ?_
  refine aj_sld hx hb hX hbl hbA hS (by omega) (by omega) dL_law_360 ?_
  refine aj_callW (A := fun q : Nat => s.heap.size ≤ q) (As := [.int (xs (i + 1)), .int (xs (i + 2)), .int (xs (i + 3))]) (rest := []) F hc aj_gL_X0_weight aj_hX0_weight ⟨Nat.le_of_ble_eq_true rfl, Nat.le_of_ble_eq_true rfl⟩ rfl rfl hKc hCC (aj_CC_recv hKc hCC) rfl hl.1 rfl (Nat.le_of_ble_eq_true rfl) ⟨Nat.le_refl _, Nat.le_refl _⟩ dL_law_361 hS (fun q h => aj_InA hAc h) (fun r H locs hB _ hk hS => ?_)
  obtain ⟨hr1, hCC⟩ := hB
  rw [hr1]
  have hMM := aj_MM_kept hMM hdis hk
  refine lv_aload_n hx hb dL_law_364 rfl (lv_at hl 2 rfl) ?_
  refine lv_aload_n hx hb dL_law_365 rfl (lv_at hl 0 rfl) ?_
  refine lv_iload_n hx hb dL_law_366 rfl (lv_at hl 3 rfl) ?_
  refine lv_iconst (v := nI 1) hx hb dL_law_367 (by decide) ?_
  refine aj_iadd hx hb dL_law_368 ?_
  refine aj_sld hx hb hX hbl hbA hS (by omega) (by omega) dL_law_369 ?_
  refine lv_aload_n hx hb dL_law_370 rfl (lv_at hl 0 rfl) ?_
  refine lv_iload_n hx hb dL_law_371 rfl (lv_at hl 3 rfl) ?_
  refine lv_iconst (v := nI 2) hx hb dL_law_372 (by decide) ?_
  refine aj_iadd hx hb dL_law_373 ?_
  refine aj_sld hx hb hX hbl hbA hS (by omega) (by omega) dL_law_374 ?_
  refine lv_aload_n hx hb dL_law_375 rfl (lv_at hl 0 rfl) ?_
  refine lv_iload_n hx hb dL_law_376 rfl (lv_at hl 3 rfl) ?_
  refine lv_iconst (v := nI 3) hx hb dL_law_377 (by decide) ?_
  refine aj_iadd hx hb dL_law_378 ?_
  refine aj_sld hx hb hX hbl hbA hS (by omega) (by omega) dL_law_379 ?_
  refine aj_callW (A := fun q : Nat => s.heap.size ≤ q) (As := [.int (xs (i + 1)), .int (xs (i + 2)), .int (xs (i + 3))]) (rest := [.int v]) F hm aj_gL_X1_weight aj_hX1_weight ⟨Nat.le_of_ble_eq_true rfl, Nat.le_of_ble_eq_true rfl⟩ rfl rfl hKm hMM (aj_MM_recv hKm hMM) rfl hl.1 rfl (Nat.le_of_ble_eq_true rfl) ⟨Nat.le_refl _, Nat.le_refl _⟩ dL_law_380 hS (fun q h => aj_InA hAm h) (fun r H locs hB _ hk hS => ?_)
  obtain ⟨hr2, hMM⟩ := hB
  rw [hr2]
  have hCC := aj_CC_kept hCC hdis hk
  refine lv_icmp_eq (tgt := 513) hx hb dL_law_383 (by decide) (fun _ => ?_) (fun c9 => absurd rfl c9)
  refine lv_iinc (v := nI (i + 4)) (lv' := [(3, .int (nI (i + 4))), (0, .ref b), (1, .ref (ad 0)), (2, .ref (bd 0))]) hx hb dL_law_513 hl (k := 3) rfl (nI_add i 4) (by decide) rfl (fun ls hl => ?_)
  refine lv_goto (tgt := 18) hx hb dL_law_516 (by decide) ?_
  exact ih G' S' _ _ hCC hMM hS ls (lv_sub hl [1, 2, 3, 0] rfl)
set_option maxHeartbeats 4000000 in
set_option maxRecDepth 100000 in
theorem aj_law_gain {p : Program} {e : Env} {s : State} {m : MethodId} {below : List Frame} {meth : Method} {c : Code} (l : Launch) {b L : Nat} {xs : Nat → Int32} (hL : L ≤ 256) (C0 : lw_At p s m meth c b L xs) {D : va_G} {ad bd : Nat → Nat} {d d2 d3 : ClassId} (hKc : va_K D aj_cl [(d, .int)] s) (hKm : va_K D aj_cl [(d3, .int), (d2, .boolean)] s) (hC : aj_Ap 8 ad) (hM : aj_Ap 4 bd) (hdis : ∀ i j, i < 8 → j < 4 → ad i ≠ bd j) (hAc : ∀ i, i < 8 → s.heap.size ≤ ad i) (hAm : ∀ i, i < 4 → s.heap.size ≤ bd i) {i : Nat} {G : aj_T} {S : Nat → Int32} (hi : i + 4 ≤ L) (ih : ∀ (G : aj_T) (S : Nat → Int32) (H : Heap) (locs : List Loc), aj_CC D ad d G S H → aj_MM D bd d2 d3 G S H → va_S (fun q : Nat => s.heap.size ≤ q) s.heap H locs → ∀ (ls : Array Slot), lv_has ls 4 [(0, .ref b), (1, .ref (ad 0)), (2, .ref (bd 0)), (3, .int (nI (i + 4)))] → W p l e room_1 s m #[Value.ref b] below meth c H locs 600000 7290000 (lw_Z below #[Value.ref b] s) (F0 m 18 ls [])) {H : Heap} {locs : List Loc} (hCC : aj_CC D ad d G S H) (hMM : aj_MM D bd d2 d3 G S H) (hS : va_S (fun q : Nat => s.heap.size ≤ q) s.heap H locs) {ls : Array Slot} (hl : lv_has ls 4 [(0, .ref b), (1, .ref (ad 0)), (2, .ref (bd 0)), (3, .int (nI i))]) : W p l e room_1 s m #[Value.ref b] below meth c H locs 600000 7290000 (lw_Z below #[Value.ref b] s) (F0 m 388 ls []) := by
  obtain ⟨hx, hb, hr, hml, hown, hts0, hX, hbl, hlocks, hgv⟩ := id C0
  have hts : ∀ w ∈ lw_all, w.before #[Value.ref b] s = true := fun w h => hts0 w (lw_all_tbl h)
  have hbA : ¬ (fun q : Nat => s.heap.size ≤ q) b := Nat.not_le.mpr hbl
  have F : CallFix p m c code 4 s #[Value.ref b] lw_all "AcyclicJoinsLaw" := ⟨hx, hb, hml, hown, hts⟩
  obtain ⟨v, G', S', hc, hm⟩ := aj_op_gain l (D := D) (d := d) (d2 := d2) (d3 := d3) (G := G) (S := S) hC hM (xs (i + 1)) (xs (i + 2)) (xs (i + 3))
  refine lv_aload_n hx hb dL_law_388 rfl (lv_at hl 1 rfl) ?_
  refine lv_aload_n hx hb dL_law_389 rfl (lv_at hl 0 rfl) ?_
  refine lv_iload_n hx hb dL_law_390 rfl (lv_at hl 3 rfl) ?_
  refine lv_iconst (v := nI 1) hx hb dL_law_391 (by decide) ?_
  refine aj_iadd hx hb dL_law_392 ?_
  refine aj_sld hx hb hX hbl hbA hS (by omega) (by omega) dL_law_393 ?_
  refine lv_aload_n hx hb dL_law_394 rfl (lv_at hl 0 rfl) ?_
  refine lv_iload_n hx hb dL_law_395 rfl (lv_at hl 3 rfl) ?_
  refine lv_iconst (v := nI 2) hx hb dL_law_396 (by decide) ?_
  refine aj_iadd hx hb dL_law_397 ?_
  refine aj_sld hx hb hX hbl hbA hS (by omega) (by omega) dL_law_398 ?_
  refine lv_aload_n hx hb dL_law_399 rfl (lv_at hl 0 rfl) ?_
  refine lv_iload_n hx hb dL_law_400 rfl (lv_at hl 3 rfl) ?_
  refine lv_iconst (v := nI 3) hx hb dL_law_401 (by decide) ?_
  refine aj_iadd hx hb dL_law_402 ?_
  refine aj_sld hx hb hX hbl hbA hS (by omega) (by omega) dL_law_403 ?_
  refine aj_callW (A := fun q : Nat => s.heap.size ≤ q) (As := [.int (xs (i + 1)), .int (xs (i + 2)), .int (xs (i + 3))]) (rest := []) F hc aj_gL_X0_gain aj_hX0_gain ⟨Nat.le_of_ble_eq_true rfl, Nat.le_of_ble_eq_true rfl⟩ rfl rfl hKc hCC (aj_CC_recv hKc hCC) rfl hl.1 rfl (Nat.le_of_ble_eq_true rfl) ⟨Nat.le_refl _, Nat.le_refl _⟩ dL_law_404 hS (fun q h => aj_InA hAc h) (fun r H locs hB _ hk hS => ?_)
  obtain ⟨hr1, hCC⟩ := hB
  rw [hr1]
  have hMM := aj_MM_kept hMM hdis hk
  refine lv_aload_n hx hb dL_law_407 rfl (lv_at hl 2 rfl) ?_
  refine lv_aload_n hx hb dL_law_408 rfl (lv_at hl 0 rfl) ?_
  refine lv_iload_n hx hb dL_law_409 rfl (lv_at hl 3 rfl) ?_
  refine lv_iconst (v := nI 1) hx hb dL_law_410 (by decide) ?_
  refine aj_iadd hx hb dL_law_411 ?_
  refine aj_sld hx hb hX hbl hbA hS (by omega) (by omega) dL_law_412 ?_
  refine lv_aload_n hx hb dL_law_413 rfl (lv_at hl 0 rfl) ?_
  refine lv_iload_n hx hb dL_law_414 rfl (lv_at hl 3 rfl) ?_
  refine lv_iconst (v := nI 2) hx hb dL_law_415 (by decide) ?_
  refine aj_iadd hx hb dL_law_416 ?_
  refine aj_sld hx hb hX hbl hbA hS (by omega) (by omega) dL_law_417 ?_
  refine lv_aload_n hx hb dL_law_418 rfl (lv_at hl 0 rfl) ?_
  refine lv_iload_n hx hb dL_law_419 rfl (lv_at hl 3 rfl) ?_
  refine lv_iconst (v := nI 3) hx hb dL_law_420 (by decide) ?_
  refine aj_iadd hx hb dL_law_421 ?_
  refine aj_sld hx hb hX hbl hbA hS (by omega) (by omega) dL_law_422 ?_
  refine aj_callW (A := fun q : Nat => s.heap.size ≤ q) (As := [.int (xs (i + 1)), .int (xs (i + 2)), .int (xs (i + 3))]) (rest := [.int v]) F hm aj_gL_X1_gain aj_hX1_gain ⟨Nat.le_of_ble_eq_true rfl, Nat.le_of_ble_eq_true rfl⟩ rfl rfl hKm hMM (aj_MM_recv hKm hMM) rfl hl.1 rfl (Nat.le_of_ble_eq_true rfl) ⟨Nat.le_refl _, Nat.le_refl _⟩ dL_law_423 hS (fun q h => aj_InA hAm h) (fun r H locs hB _ hk hS => ?_)
  obtain ⟨hr2, hMM⟩ := hB
  rw [hr2]
  have hCC := aj_CC_kept hCC hdis hk
  refine lv_icmp_eq (tgt := 513) hx hb dL_law_426 (by decide) (fun _ => ?_) (fun c9 => absurd rfl c9)
  refine lv_iinc (v := nI (i + 4)) (lv' := [(3, .int (nI (i + 4))), (0, .ref b), (1, .ref (ad 0)), (2, .ref (bd 0))]) hx hb dL_law_513 hl (k := 3) rfl (nI_add i 4) (by decide) rfl (fun ls hl => ?_)
  refine lv_goto (tgt := 18) hx hb dL_law_516 (by decide) ?_
  exact ih G' S' _ _ hCC hMM hS ls (lv_sub hl [1, 2, 3, 0] rfl)
set_option maxHeartbeats 4000000 in
set_option maxRecDepth 100000 in
theorem aj_law_values {p : Program} {e : Env} {s : State} {m : MethodId} {below : List Frame} {meth : Method} {c : Code} (l : Launch) {b L : Nat} {xs : Nat → Int32} (hL : L ≤ 256) (C0 : lw_At p s m meth c b L xs) {D : va_G} {ad bd : Nat → Nat} {d d2 d3 : ClassId} (hKc : va_K D aj_cl [(d, .int)] s) (hKm : va_K D aj_cl [(d3, .int), (d2, .boolean)] s) (hC : aj_Ap 8 ad) (hM : aj_Ap 4 bd) (hdis : ∀ i j, i < 8 → j < 4 → ad i ≠ bd j) (hAc : ∀ i, i < 8 → s.heap.size ≤ ad i) (hAm : ∀ i, i < 4 → s.heap.size ≤ bd i) {i : Nat} {G : aj_T} {S : Nat → Int32} (hi : i + 4 ≤ L) (ih : ∀ (G : aj_T) (S : Nat → Int32) (H : Heap) (locs : List Loc), aj_CC D ad d G S H → aj_MM D bd d2 d3 G S H → va_S (fun q : Nat => s.heap.size ≤ q) s.heap H locs → ∀ (ls : Array Slot), lv_has ls 4 [(0, .ref b), (1, .ref (ad 0)), (2, .ref (bd 0)), (3, .int (nI (i + 4)))] → W p l e room_1 s m #[Value.ref b] below meth c H locs 600000 7290000 (lw_Z below #[Value.ref b] s) (F0 m 18 ls [])) {H : Heap} {locs : List Loc} (hCC : aj_CC D ad d G S H) (hMM : aj_MM D bd d2 d3 G S H) (hS : va_S (fun q : Nat => s.heap.size ≤ q) s.heap H locs) {ls : Array Slot} (hl : lv_has ls 4 [(0, .ref b), (1, .ref (ad 0)), (2, .ref (bd 0)), (3, .int (nI i))]) : W p l e room_1 s m #[Value.ref b] below meth c H locs 600000 7290000 (lw_Z below #[Value.ref b] s) (F0 m 431 ls []) := by
  obtain ⟨hx, hb, hr, hml, hown, hts0, hX, hbl, hlocks, hgv⟩ := id C0
  have hts : ∀ w ∈ lw_all, w.before #[Value.ref b] s = true := fun w h => hts0 w (lw_all_tbl h)
  have hbA : ¬ (fun q : Nat => s.heap.size ≤ q) b := Nat.not_le.mpr hbl
  have F : CallFix p m c code 4 s #[Value.ref b] lw_all "AcyclicJoinsLaw" := ⟨hx, hb, hml, hown, hts⟩
  obtain ⟨v, G', S', hc, hm⟩ := aj_op_values l (D := D) (d := d) (d2 := d2) (d3 := d3) (G := G) (S := S) hC hM (xs (i + 1))
  refine lv_aload_n hx hb dL_law_431 rfl (lv_at hl 1 rfl) ?_
  refine lv_aload_n hx hb dL_law_432 rfl (lv_at hl 0 rfl) ?_
  refine lv_iload_n hx hb dL_law_433 rfl (lv_at hl 3 rfl) ?_
  refine lv_iconst (v := nI 1) hx hb dL_law_434 (by decide) ?_
  refine aj_iadd hx hb dL_law_435 ?_
  refine aj_sld hx hb hX hbl hbA hS (by omega) (by omega) dL_law_436 ?_
  refine aj_callW (A := fun q : Nat => s.heap.size ≤ q) (As := [.int (xs (i + 1))]) (rest := []) F hc aj_gL_X0_values aj_hX0_values ⟨Nat.le_of_ble_eq_true rfl, Nat.le_of_ble_eq_true rfl⟩ rfl rfl hKc hCC (aj_CC_recv hKc hCC) rfl hl.1 rfl (Nat.le_of_ble_eq_true rfl) ⟨Nat.le_refl _, Nat.le_refl _⟩ dL_law_437 hS (fun q h => aj_InA hAc h) (fun r H locs hB _ hk hS => ?_)
  obtain ⟨hr1, hCC⟩ := hB
  rw [hr1]
  have hMM := aj_MM_kept hMM hdis hk
  refine lv_aload_n hx hb dL_law_440 rfl (lv_at hl 2 rfl) ?_
  refine lv_aload_n hx hb dL_law_441 rfl (lv_at hl 0 rfl) ?_
  refine lv_iload_n hx hb dL_law_442 rfl (lv_at hl 3 rfl) ?_
  refine lv_iconst (v := nI 1) hx hb dL_law_443 (by decide) ?_
  refine aj_iadd hx hb dL_law_444 ?_
  refine aj_sld hx hb hX hbl hbA hS (by omega) (by omega) dL_law_445 ?_
  refine aj_callW (A := fun q : Nat => s.heap.size ≤ q) (As := [.int (xs (i + 1))]) (rest := [.int v]) F hm aj_gL_X1_values aj_hX1_values ⟨Nat.le_of_ble_eq_true rfl, Nat.le_of_ble_eq_true rfl⟩ rfl rfl hKm hMM (aj_MM_recv hKm hMM) rfl hl.1 rfl (Nat.le_of_ble_eq_true rfl) ⟨Nat.le_refl _, Nat.le_refl _⟩ dL_law_446 hS (fun q h => aj_InA hAm h) (fun r H locs hB _ hk hS => ?_)
  obtain ⟨hr2, hMM⟩ := hB
  rw [hr2]
  have hCC := aj_CC_kept hCC hdis hk
  refine lv_icmp_eq (tgt := 513) hx hb dL_law_449 (by decide) (fun _ => ?_) (fun c9 => absurd rfl c9)
  refine lv_iinc (v := nI (i + 4)) (lv' := [(3, .int (nI (i + 4))), (0, .ref b), (1, .ref (ad 0)), (2, .ref (bd 0))]) hx hb dL_law_513 hl (k := 3) rfl (nI_add i 4) (by decide) rfl (fun ls hl => ?_)
  refine lv_goto (tgt := 18) hx hb dL_law_516 (by decide) ?_
  exact ih G' S' _ _ hCC hMM hS ls (lv_sub hl [1, 2, 3, 0] rfl)
set_option maxHeartbeats 4000000 in
set_option maxRecDepth 100000 in
theorem aj_law_with {p : Program} {e : Env} {s : State} {m : MethodId} {below : List Frame} {meth : Method} {c : Code} (l : Launch) {b L : Nat} {xs : Nat → Int32} (hL : L ≤ 256) (C0 : lw_At p s m meth c b L xs) {D : va_G} {ad bd : Nat → Nat} {d d2 d3 : ClassId} (hKc : va_K D aj_cl [(d, .int)] s) (hKm : va_K D aj_cl [(d3, .int), (d2, .boolean)] s) (hC : aj_Ap 8 ad) (hM : aj_Ap 4 bd) (hdis : ∀ i j, i < 8 → j < 4 → ad i ≠ bd j) (hAc : ∀ i, i < 8 → s.heap.size ≤ ad i) (hAm : ∀ i, i < 4 → s.heap.size ≤ bd i) {i : Nat} {G : aj_T} {S : Nat → Int32} (hi : i + 4 ≤ L) (ih : ∀ (G : aj_T) (S : Nat → Int32) (H : Heap) (locs : List Loc), aj_CC D ad d G S H → aj_MM D bd d2 d3 G S H → va_S (fun q : Nat => s.heap.size ≤ q) s.heap H locs → ∀ (ls : Array Slot), lv_has ls 4 [(0, .ref b), (1, .ref (ad 0)), (2, .ref (bd 0)), (3, .int (nI (i + 4)))] → W p l e room_1 s m #[Value.ref b] below meth c H locs 600000 7290000 (lw_Z below #[Value.ref b] s) (F0 m 18 ls [])) {H : Heap} {locs : List Loc} (hCC : aj_CC D ad d G S H) (hMM : aj_MM D bd d2 d3 G S H) (hS : va_S (fun q : Nat => s.heap.size ≤ q) s.heap H locs) {ls : Array Slot} (hl : lv_has ls 4 [(0, .ref b), (1, .ref (ad 0)), (2, .ref (bd 0)), (3, .int (nI i))]) : W p l e room_1 s m #[Value.ref b] below meth c H locs 600000 7290000 (lw_Z below #[Value.ref b] s) (F0 m 454 ls []) := by
  obtain ⟨hx, hb, hr, hml, hown, hts0, hX, hbl, hlocks, hgv⟩ := id C0
  have hts : ∀ w ∈ lw_all, w.before #[Value.ref b] s = true := fun w h => hts0 w (lw_all_tbl h)
  have hbA : ¬ (fun q : Nat => s.heap.size ≤ q) b := Nat.not_le.mpr hbl
  have F : CallFix p m c code 4 s #[Value.ref b] lw_all "AcyclicJoinsLaw" := ⟨hx, hb, hml, hown, hts⟩
  obtain ⟨v, G', S', hc, hm⟩ := aj_op_with l (D := D) (d := d) (d2 := d2) (d3 := d3) (G := G) (S := S) hC hM (xs (i + 1)) (xs (i + 2))
  refine lv_aload_n hx hb dL_law_454 rfl (lv_at hl 1 rfl) ?_
  refine lv_aload_n hx hb dL_law_455 rfl (lv_at hl 0 rfl) ?_
  refine lv_iload_n hx hb dL_law_456 rfl (lv_at hl 3 rfl) ?_
  refine lv_iconst (v := nI 1) hx hb dL_law_457 (by decide) ?_
  refine aj_iadd hx hb dL_law_458 ?_
  refine aj_sld hx hb hX hbl hbA hS (by omega) (by omega) dL_law_459 ?_
  refine lv_aload_n hx hb dL_law_460 rfl (lv_at hl 0 rfl) ?_
  refine lv_iload_n hx hb dL_law_461 rfl (lv_at hl 3 rfl) ?_
  refine lv_iconst (v := nI 2) hx hb dL_law_462 (by decide) ?_
  refine aj_iadd hx hb dL_law_463 ?_
  refine aj_sld hx hb hX hbl hbA hS (by omega) (by omega) dL_law_464 ?_
  refine aj_callW (A := fun q : Nat => s.heap.size ≤ q) (As := [.int (xs (i + 1)), .int (xs (i + 2))]) (rest := []) F hc aj_gL_X0_with aj_hX0_with ⟨Nat.le_of_ble_eq_true rfl, Nat.le_of_ble_eq_true rfl⟩ rfl rfl hKc hCC (aj_CC_recv hKc hCC) rfl hl.1 rfl (Nat.le_of_ble_eq_true rfl) ⟨Nat.le_refl _, Nat.le_refl _⟩ dL_law_465 hS (fun q h => aj_InA hAc h) (fun r H locs hB _ hk hS => ?_)
  obtain ⟨hr1, hCC⟩ := hB
  rw [hr1]
  have hMM := aj_MM_kept hMM hdis hk
  refine lv_aload_n hx hb dL_law_468 rfl (lv_at hl 2 rfl) ?_
  refine lv_aload_n hx hb dL_law_469 rfl (lv_at hl 0 rfl) ?_
  refine lv_iload_n hx hb dL_law_470 rfl (lv_at hl 3 rfl) ?_
  refine lv_iconst (v := nI 1) hx hb dL_law_471 (by decide) ?_
  refine aj_iadd hx hb dL_law_472 ?_
  refine aj_sld hx hb hX hbl hbA hS (by omega) (by omega) dL_law_473 ?_
  refine lv_aload_n hx hb dL_law_474 rfl (lv_at hl 0 rfl) ?_
  refine lv_iload_n hx hb dL_law_475 rfl (lv_at hl 3 rfl) ?_
  refine lv_iconst (v := nI 2) hx hb dL_law_476 (by decide) ?_
  refine aj_iadd hx hb dL_law_477 ?_
  refine aj_sld hx hb hX hbl hbA hS (by omega) (by omega) dL_law_478 ?_
  refine aj_callW (A := fun q : Nat => s.heap.size ≤ q) (As := [.int (xs (i + 1)), .int (xs (i + 2))]) (rest := [.int v]) F hm aj_gL_X1_with aj_hX1_with ⟨Nat.le_of_ble_eq_true rfl, Nat.le_of_ble_eq_true rfl⟩ rfl rfl hKm hMM (aj_MM_recv hKm hMM) rfl hl.1 rfl (Nat.le_of_ble_eq_true rfl) ⟨Nat.le_refl _, Nat.le_refl _⟩ dL_law_479 hS (fun q h => aj_InA hAm h) (fun r H locs hB _ hk hS => ?_)
  obtain ⟨hr2, hMM⟩ := hB
  rw [hr2]
  have hCC := aj_CC_kept hCC hdis hk
  refine lv_icmp_eq (tgt := 513) hx hb dL_law_482 (by decide) (fun _ => ?_) (fun c9 => absurd rfl c9)
  refine lv_iinc (v := nI (i + 4)) (lv' := [(3, .int (nI (i + 4))), (0, .ref b), (1, .ref (ad 0)), (2, .ref (bd 0))]) hx hb dL_law_513 hl (k := 3) rfl (nI_add i 4) (by decide) rfl (fun ls hl => ?_)
  refine lv_goto (tgt := 18) hx hb dL_law_516 (by decide) ?_
  exact ih G' S' _ _ hCC hMM hS ls (lv_sub hl [1, 2, 3, 0] rfl)
set_option maxHeartbeats 4000000 in
set_option maxRecDepth 100000 in
theorem aj_law_ends {p : Program} {e : Env} {s : State} {m : MethodId} {below : List Frame} {meth : Method} {c : Code} (l : Launch) {b L : Nat} {xs : Nat → Int32} (hL : L ≤ 256) (C0 : lw_At p s m meth c b L xs) {D : va_G} {ad bd : Nat → Nat} {d d2 d3 : ClassId} (hKc : va_K D aj_cl [(d, .int)] s) (hKm : va_K D aj_cl [(d3, .int), (d2, .boolean)] s) (hC : aj_Ap 8 ad) (hM : aj_Ap 4 bd) (hdis : ∀ i j, i < 8 → j < 4 → ad i ≠ bd j) (hAc : ∀ i, i < 8 → s.heap.size ≤ ad i) (hAm : ∀ i, i < 4 → s.heap.size ≤ bd i) {i : Nat} {G : aj_T} {S : Nat → Int32} (hi : i + 4 ≤ L) (ih : ∀ (G : aj_T) (S : Nat → Int32) (H : Heap) (locs : List Loc), aj_CC D ad d G S H → aj_MM D bd d2 d3 G S H → va_S (fun q : Nat => s.heap.size ≤ q) s.heap H locs → ∀ (ls : Array Slot), lv_has ls 4 [(0, .ref b), (1, .ref (ad 0)), (2, .ref (bd 0)), (3, .int (nI (i + 4)))] → W p l e room_1 s m #[Value.ref b] below meth c H locs 600000 7290000 (lw_Z below #[Value.ref b] s) (F0 m 18 ls [])) {H : Heap} {locs : List Loc} (hCC : aj_CC D ad d G S H) (hMM : aj_MM D bd d2 d3 G S H) (hS : va_S (fun q : Nat => s.heap.size ≤ q) s.heap H locs) {ls : Array Slot} (hl : lv_has ls 4 [(0, .ref b), (1, .ref (ad 0)), (2, .ref (bd 0)), (3, .int (nI i))]) : W p l e room_1 s m #[Value.ref b] below meth c H locs 600000 7290000 (lw_Z below #[Value.ref b] s) (F0 m 487 ls []) := by
  obtain ⟨hx, hb, hr, hml, hown, hts0, hX, hbl, hlocks, hgv⟩ := id C0
  have hts : ∀ w ∈ lw_all, w.before #[Value.ref b] s = true := fun w h => hts0 w (lw_all_tbl h)
  have hbA : ¬ (fun q : Nat => s.heap.size ≤ q) b := Nat.not_le.mpr hbl
  have F : CallFix p m c code 4 s #[Value.ref b] lw_all "AcyclicJoinsLaw" := ⟨hx, hb, hml, hown, hts⟩
  obtain ⟨v, G', S', hc, hm⟩ := aj_op_ends l (D := D) (d := d) (d2 := d2) (d3 := d3) (G := G) (S := S) hC hM 
  refine lv_aload_n hx hb dL_law_487 rfl (lv_at hl 1 rfl) ?_
  refine aj_callW (A := fun q : Nat => s.heap.size ≤ q) (As := []) (rest := []) F hc aj_gL_X0_ends aj_hX0_ends ⟨Nat.le_of_ble_eq_true rfl, Nat.le_of_ble_eq_true rfl⟩ rfl rfl hKc hCC (aj_CC_recv hKc hCC) rfl hl.1 rfl (Nat.le_of_ble_eq_true rfl) ⟨Nat.le_refl _, Nat.le_refl _⟩ dL_law_488 hS (fun q h => aj_InA hAc h) (fun r H locs hB _ hk hS => ?_)
  obtain ⟨hr1, hCC⟩ := hB
  rw [hr1]
  have hMM := aj_MM_kept hMM hdis hk
  refine lv_aload_n hx hb dL_law_491 rfl (lv_at hl 2 rfl) ?_
  refine aj_callW (A := fun q : Nat => s.heap.size ≤ q) (As := []) (rest := [.int v]) F hm aj_gL_X1_ends aj_hX1_ends ⟨Nat.le_of_ble_eq_true rfl, Nat.le_of_ble_eq_true rfl⟩ rfl rfl hKm hMM (aj_MM_recv hKm hMM) rfl hl.1 rfl (Nat.le_of_ble_eq_true rfl) ⟨Nat.le_refl _, Nat.le_refl _⟩ dL_law_492 hS (fun q h => aj_InA hAm h) (fun r H locs hB _ hk hS => ?_)
  obtain ⟨hr2, hMM⟩ := hB
  rw [hr2]
  have hCC := aj_CC_kept hCC hdis hk
  refine lv_icmp_eq (tgt := 513) hx hb dL_law_495 (by decide) (fun _ => ?_) (fun c9 => absurd rfl c9)
  refine lv_iinc (v := nI (i + 4)) (lv' := [(3, .int (nI (i + 4))), (0, .ref b), (1, .ref (ad 0)), (2, .ref (bd 0))]) hx hb dL_law_513 hl (k := 3) rfl (nI_add i 4) (by decide) rfl (fun ls hl => ?_)
  refine lv_goto (tgt := 18) hx hb dL_law_516 (by decide) ?_
  exact ih G' S' _ _ hCC hMM hS ls (lv_sub hl [1, 2, 3, 0] rfl)
set_option maxHeartbeats 4000000 in
set_option maxRecDepth 100000 in
theorem aj_law_sum {p : Program} {e : Env} {s : State} {m : MethodId} {below : List Frame} {meth : Method} {c : Code} (l : Launch) {b L : Nat} {xs : Nat → Int32} (hL : L ≤ 256) (C0 : lw_At p s m meth c b L xs) {D : va_G} {ad bd : Nat → Nat} {d d2 d3 : ClassId} (hKc : va_K D aj_cl [(d, .int)] s) (hKm : va_K D aj_cl [(d3, .int), (d2, .boolean)] s) (hC : aj_Ap 8 ad) (hM : aj_Ap 4 bd) (hdis : ∀ i j, i < 8 → j < 4 → ad i ≠ bd j) (hAc : ∀ i, i < 8 → s.heap.size ≤ ad i) (hAm : ∀ i, i < 4 → s.heap.size ≤ bd i) {i : Nat} {G : aj_T} {S : Nat → Int32} (hi : i + 4 ≤ L) (ih : ∀ (G : aj_T) (S : Nat → Int32) (H : Heap) (locs : List Loc), aj_CC D ad d G S H → aj_MM D bd d2 d3 G S H → va_S (fun q : Nat => s.heap.size ≤ q) s.heap H locs → ∀ (ls : Array Slot), lv_has ls 4 [(0, .ref b), (1, .ref (ad 0)), (2, .ref (bd 0)), (3, .int (nI (i + 4)))] → W p l e room_1 s m #[Value.ref b] below meth c H locs 600000 7290000 (lw_Z below #[Value.ref b] s) (F0 m 18 ls [])) {H : Heap} {locs : List Loc} (hCC : aj_CC D ad d G S H) (hMM : aj_MM D bd d2 d3 G S H) (hS : va_S (fun q : Nat => s.heap.size ≤ q) s.heap H locs) {ls : Array Slot} (hl : lv_has ls 4 [(0, .ref b), (1, .ref (ad 0)), (2, .ref (bd 0)), (3, .int (nI i))]) : W p l e room_1 s m #[Value.ref b] below meth c H locs 600000 7290000 (lw_Z below #[Value.ref b] s) (F0 m 500 ls []) := by
  obtain ⟨hx, hb, hr, hml, hown, hts0, hX, hbl, hlocks, hgv⟩ := id C0
  have hts : ∀ w ∈ lw_all, w.before #[Value.ref b] s = true := fun w h => hts0 w (lw_all_tbl h)
  have hbA : ¬ (fun q : Nat => s.heap.size ≤ q) b := Nat.not_le.mpr hbl
  have F : CallFix p m c code 4 s #[Value.ref b] lw_all "AcyclicJoinsLaw" := ⟨hx, hb, hml, hown, hts⟩
  obtain ⟨v, G', S', hc, hm⟩ := aj_op_sum l (D := D) (d := d) (d2 := d2) (d3 := d3) (G := G) (S := S) hC hM 
  refine lv_aload_n hx hb dL_law_500 rfl (lv_at hl 1 rfl) ?_
  refine aj_callW (A := fun q : Nat => s.heap.size ≤ q) (As := []) (rest := []) F hc aj_gL_X0_sum aj_hX0_sum ⟨Nat.le_of_ble_eq_true rfl, Nat.le_of_ble_eq_true rfl⟩ rfl rfl hKc hCC (aj_CC_recv hKc hCC) rfl hl.1 rfl (Nat.le_of_ble_eq_true rfl) ⟨Nat.le_refl _, Nat.le_refl _⟩ dL_law_501 hS (fun q h => aj_InA hAc h) (fun r H locs hB _ hk hS => ?_)
  obtain ⟨hr1, hCC⟩ := hB
  rw [hr1]
  have hMM := aj_MM_kept hMM hdis hk
  refine lv_aload_n hx hb dL_law_504 rfl (lv_at hl 2 rfl) ?_
  refine aj_callW (A := fun q : Nat => s.heap.size ≤ q) (As := []) (rest := [.int v]) F hm aj_gL_X1_sum aj_hX1_sum ⟨Nat.le_of_ble_eq_true rfl, Nat.le_of_ble_eq_true rfl⟩ rfl rfl hKm hMM (aj_MM_recv hKm hMM) rfl hl.1 rfl (Nat.le_of_ble_eq_true rfl) ⟨Nat.le_refl _, Nat.le_refl _⟩ dL_law_505 hS (fun q h => aj_InA hAm h) (fun r H locs hB _ hk hS => ?_)
  obtain ⟨hr2, hMM⟩ := hB
  rw [hr2]
  have hCC := aj_CC_kept hCC hdis hk
  refine lv_icmp_eq (tgt := 513) hx hb dL_law_508 (by decide) (fun _ => ?_) (fun c9 => absurd rfl c9)
  refine lv_iinc (v := nI (i + 4)) (lv' := [(3, .int (nI (i + 4))), (0, .ref b), (1, .ref (ad 0)), (2, .ref (bd 0))]) hx hb dL_law_513 hl (k := 3) rfl (nI_add i 4) (by decide) rfl (fun ls hl => ?_)
  refine lv_goto (tgt := 18) hx hb dL_law_516 (by decide) ?_
  exact ih G' S' _ _ hCC hMM hS ls (lv_sub hl [1, 2, 3, 0] rfl)
set_option maxHeartbeats 4000000 in
set_option maxRecDepth 100000 in
theorem aj_law_loop {p : Program} {e : Env} {s : State} {m : MethodId} {below : List Frame} {meth : Method} {c : Code} (l : Launch) {b L : Nat} {xs : Nat → Int32} (hL : L ≤ 256) (C0 : lw_At p s m meth c b L xs) {D : va_G} {ad bd : Nat → Nat} {d d2 d3 : ClassId} (hKc : va_K D aj_cl [(d, .int)] s) (hKm : va_K D aj_cl [(d3, .int), (d2, .boolean)] s) (hC : aj_Ap 8 ad) (hM : aj_Ap 4 bd) (hdis : ∀ i j, i < 8 → j < 4 → ad i ≠ bd j) (hAc : ∀ i, i < 8 → s.heap.size ≤ ad i) (hAm : ∀ i, i < 4 → s.heap.size ≤ bd i) : ∀ (n i : Nat) (G : aj_T) (S : Nat → Int32), i ≤ L → L + 1 ≤ i + n → ∀ (H : Heap) (locs : List Loc), aj_CC D ad d G S H → aj_MM D bd d2 d3 G S H → va_S (fun q : Nat => s.heap.size ≤ q) s.heap H locs → ∀ (ls : Array Slot), lv_has ls 4 [(0, .ref b), (1, .ref (ad 0)), (2, .ref (bd 0)), (3, .int (nI i))] → W p l e room_1 s m #[Value.ref b] below meth c H locs 600000 7290000 (lw_Z below #[Value.ref b] s) (F0 m 18 ls []) := by
  obtain ⟨hx, hb, hr, hml, hown, hts0, hX, hbl, hlocks, hgv⟩ := id C0
  have hts : ∀ w ∈ lw_all, w.before #[Value.ref b] s = true := fun w h => hts0 w (lw_all_tbl h)
  have hbA : ¬ (fun q : Nat => s.heap.size ≤ q) b := Nat.not_le.mpr hbl
  have F : CallFix p m c code 4 s #[Value.ref b] lw_all "AcyclicJoinsLaw" := ⟨hx, hb, hml, hown, hts⟩
  intro n
  induction n with
  | zero =>
    intro i G S hi hn
    exfalso; omega
  | succ n ih =>
    intro i G S hi hn H locs hCC hMM hS ls hl
    refine lv_iload_n hx hb dL_law_18 rfl (lv_at hl 3 rfl) ?_
    refine lv_aload_n hx hb dL_law_19 rfl (lv_at hl 0 rfl) ?_
    refine va_slen hx hb hX hbl hbA hS dL_law_20 ?_
    refine lv_iconst (v := nI 4) hx hb dL_law_21 (by decide) ?_
    refine lv_isub hx hb dL_law_22 ?_
    refine lv_icmp_gt (tgt := 519) hx hb dL_law_23 (by decide) (fun c9 => ?_) (fun c9 => ?_)
    · refine lv_iconst (v := 1) hx hb dL_law_519 (by decide) ?_
      refine va_forget (fun q hq => hS.2.2 q hq) ?_
      exact lw_ret hx hb hr hlocks dL_law_520
    rw [aj_cmpL hL (by omega)] at c9
    have ih4 : ∀ (G : aj_T) (S : Nat → Int32) (H : Heap) (locs : List Loc), aj_CC D ad d G S H → aj_MM D bd d2 d3 G S H → va_S (fun q : Nat => s.heap.size ≤ q) s.heap H locs → ∀ (ls : Array Slot), lv_has ls 4 [(0, .ref b), (1, .ref (ad 0)), (2, .ref (bd 0)), (3, .int (nI (i + 4)))] → W p l e room_1 s m #[Value.ref b] below meth c H locs 600000 7290000 (lw_Z below #[Value.ref b] s) (F0 m 18 ls []) := fun G S H locs h1 h2 h3 ls hl => ih (i + 4) G S (by omega) (by omega) H locs h1 h2 h3 ls hl
    refine lv_aload_n hx hb dL_law_26 rfl (lv_at hl 0 rfl) ?_
    refine lv_iload_n hx hb dL_law_27 rfl (lv_at hl 3 rfl) ?_
    refine aj_sld hx hb hX hbl hbA hS (by omega) (by omega) dL_law_28 ?_
    refine lv_bipush (v := nI 15) hx hb dL_law_29 (by decide) ?_
    refine lv_iand hx hb dL_law_31 ?_
    obtain ⟨j, hj, ej⟩ := pk_andE (xs i) (m := nI 15) 4 (by decide)
    refine aj_top ej ?_
    have hj : j < 16 := hj
    rcases (show j = 0 ∨ j = 1 ∨ j = 2 ∨ j = 3 ∨ j = 4 ∨ j = 5 ∨ j = 6 ∨ j = 7 ∨ j = 8 ∨ j = 9 ∨ j = 10 ∨ j = 11 ∨ j = 12 ∨ j = 13 ∨ j = 14 ∨ j = 15 by omega) with rfl | rfl | rfl | rfl | rfl | rfl | rfl | rfl | rfl | rfl | rfl | rfl | rfl | rfl | rfl | rfl
    · refine lv_tableIn (off := 76) (tgt := 108) hx hb dL_law_32 (by decide) (by decide) rfl (by decide) ?_
      exact aj_law_put l hL C0 hKc hKm hC hM hdis hAc hAm (by omega) ih4 hCC hMM hS hl
    · refine lv_tableIn (off := 119) (tgt := 151) hx hb dL_law_32 (by decide) (by decide) rfl (by decide) ?_
      exact aj_law_drop l hL C0 hKc hKm hC hM hdis hAc hAm (by omega) ih4 hCC hMM hS hl
    · refine lv_tableIn (off := 162) (tgt := 194) hx hb dL_law_32 (by decide) (by decide) rfl (by decide) ?_
      exact aj_law_clear l hL C0 hKc hKm hC hM hdis hAc hAm (by omega) ih4 hCC hMM hS hl
    · refine lv_tableIn (off := 185) (tgt := 217) hx hb dL_law_32 (by decide) (by decide) rfl (by decide) ?_
      exact aj_law_rows l hL C0 hKc hKm hC hM hdis hAc hAm (by omega) ih4 hCC hMM hS hl
    · refine lv_tableIn (off := 208) (tgt := 240) hx hb dL_law_32 (by decide) (by decide) rfl (by decide) ?_
      exact aj_law_count l hL C0 hKc hKm hC hM hdis hAc hAm (by omega) ih4 hCC hMM hS hl
    · refine lv_tableIn (off := 221) (tgt := 253) hx hb dL_law_32 (by decide) (by decide) rfl (by decide) ?_
      exact aj_law_answer l hL C0 hKc hKm hC hM hdis hAc hAm (by omega) ih4 hCC hMM hS hl
    · refine lv_tableIn (off := 244) (tgt := 276) hx hb dL_law_32 (by decide) (by decide) rfl (by decide) ?_
      exact aj_law_has l hL C0 hKc hKm hC hM hdis hAc hAm (by omega) ih4 hCC hMM hS hl
    · refine lv_tableIn (off := 267) (tgt := 299) hx hb dL_law_32 (by decide) (by decide) rfl (by decide) ?_
      exact aj_law_rank l hL C0 hKc hKm hC hM hdis hAc hAm (by omega) ih4 hCC hMM hS hl
    · refine lv_tableIn (off := 290) (tgt := 322) hx hb dL_law_32 (by decide) (by decide) rfl (by decide) ?_
      exact aj_law_useful l hL C0 hKc hKm hC hM hdis hAc hAm (by omega) ih4 hCC hMM hS hl
    · refine lv_tableIn (off := 313) (tgt := 345) hx hb dL_law_32 (by decide) (by decide) rfl (by decide) ?_
      exact aj_law_weight l hL C0 hKc hKm hC hM hdis hAc hAm (by omega) ih4 hCC hMM hS hl
    · refine lv_tableIn (off := 356) (tgt := 388) hx hb dL_law_32 (by decide) (by decide) rfl (by decide) ?_
      exact aj_law_gain l hL C0 hKc hKm hC hM hdis hAc hAm (by omega) ih4 hCC hMM hS hl
    · refine lv_tableIn (off := 399) (tgt := 431) hx hb dL_law_32 (by decide) (by decide) rfl (by decide) ?_
      exact aj_law_values l hL C0 hKc hKm hC hM hdis hAc hAm (by omega) ih4 hCC hMM hS hl
    · refine lv_tableIn (off := 422) (tgt := 454) hx hb dL_law_32 (by decide) (by decide) rfl (by decide) ?_
      exact aj_law_with l hL C0 hKc hKm hC hM hdis hAc hAm (by omega) ih4 hCC hMM hS hl
    · refine lv_tableIn (off := 455) (tgt := 487) hx hb dL_law_32 (by decide) (by decide) rfl (by decide) ?_
      exact aj_law_ends l hL C0 hKc hKm hC hM hdis hAc hAm (by omega) ih4 hCC hMM hS hl
    · refine lv_tableIn (off := 468) (tgt := 500) hx hb dL_law_32 (by decide) (by decide) rfl (by decide) ?_
      exact aj_law_sum l hL C0 hKc hKm hC hM hdis hAc hAm (by omega) ih4 hCC hMM hS hl
    · refine lv_tableOut (tgt := 513) hx hb dL_law_32 (Or.inr (by decide)) (by decide) ?_
      refine lv_iinc (v := nI (i + 4)) (lv' := [(3, .int (nI (i + 4))), (0, .ref b), (1, .ref (ad 0)), (2, .ref (bd 0))]) hx hb dL_law_513 hl (k := 3) rfl (nI_add i 4) (by decide) rfl (fun ls hl => ?_)
      refine lv_goto (tgt := 18) hx hb dL_law_516 (by decide) ?_
      exact ih4 G S _ _ hCC hMM hS ls (lv_sub hl [1, 2, 3, 0] rfl)
end
end
section
section
theorem aj_cGet {ad : Nat → Nat} {d : ClassId} {N S : Nat → Int32} {pd : Int32} {dR dT dQ uQ uR : Nat → Int32} {re : Int32} : ∀ i, i < 8 → ∃ e : va_E, (aj_cW ad d N S pd dR dT dQ uQ uR re)[i]? = some (ad i, e)
  | 0, _ => ⟨_, rfl⟩
  | 1, _ => ⟨_, rfl⟩
  | 2, _ => ⟨_, rfl⟩
  | 3, _ => ⟨_, rfl⟩
  | 4, _ => ⟨_, rfl⟩
  | 5, _ => ⟨_, rfl⟩
  | 6, _ => ⟨_, rfl⟩
  | 7, _ => ⟨_, rfl⟩
  | k + 8, h => absurd h (by omega)
theorem aj_mGet {bd : Nat → Nat} {d2 d : ClassId} {M S E : Nat → Int32} : ∀ i, i < 4 → ∃ e : va_E, (aj_mW bd d2 d M S E)[i]? = some (bd i, e)
  | 0, _ => ⟨_, rfl⟩
  | 1, _ => ⟨_, rfl⟩
  | 2, _ => ⟨_, rfl⟩
  | 3, _ => ⟨_, rfl⟩
  | k + 4, h => absurd h (by omega)
/-- the two objects' cells are apart -/
theorem aj_apart {A : Nat → Prop} {ad bd : Nat → Nat} {d d2 d3 : ClassId} {N S : Nat → Int32} {pd : Int32} {dR dT dQ uQ uR : Nat → Int32} {re : Int32} {M S2 E : Nat → Int32} (hD : va_D A (aj_cW ad d N S pd dR dT dQ uQ uR re ++ aj_mW bd d2 d3 M S2 E)) : aj_Ap 8 ad ∧ aj_Ap 4 bd ∧ (∀ i j, i < 8 → j < 4 → ad i ≠ bd j) ∧ (∀ i, i < 8 → A (ad i)) ∧ (∀ i, i < 4 → A (bd i)) := by
  have g1 : ∀ i, i < 8 → ∃ e : va_E, (aj_cW ad d N S pd dR dT dQ uQ uR re ++ aj_mW bd d2 d3 M S2 E)[i]? = some (ad i, e) := by
    intro i hi
    obtain ⟨e, h⟩ := aj_cGet (ad := ad) (d := d) (N := N) (S := S) (pd := pd) (dR := dR) (dT := dT) (dQ := dQ) (uQ := uQ) (uR := uR) (re := re) i hi
    exact ⟨e, by rw [List.getElem?_append_left (show i < (aj_cW ad d N S pd dR dT dQ uQ uR re).length from hi)]; exact h⟩
  have g2 : ∀ i, i < 4 → ∃ e : va_E, (aj_cW ad d N S pd dR dT dQ uQ uR re ++ aj_mW bd d2 d3 M S2 E)[8 + i]? = some (bd i, e) := by
    intro i hi
    obtain ⟨e, h⟩ := aj_mGet (bd := bd) (d2 := d2) (d := d3) (M := M) (S := S2) (E := E) i hi
    refine ⟨e, ?_⟩
    rw [List.getElem?_append_right (show (aj_cW ad d N S pd dR dT dQ uQ uR re).length ≤ 8 + i from Nat.le_add_right 8 i), show 8 + i - (aj_cW ad d N S pd dR dT dQ uQ uR re).length = i from Nat.add_sub_cancel_left 8 i]
    exact h
  refine ⟨fun i j hi hj e => ?_, fun i j hi hj e => ?_, fun i j hi hj e => ?_, fun i hi => ?_, fun i hi => ?_⟩
  · obtain ⟨_, h1⟩ := g1 i hi
    obtain ⟨_, h2⟩ := g1 j hj
    exact hD.1 i j _ _ h1 h2 e
  · obtain ⟨_, h1⟩ := g2 i hi
    obtain ⟨_, h2⟩ := g2 j hj
    have := hD.1 _ _ _ _ h1 h2 e
    omega
  · obtain ⟨_, h1⟩ := g1 i hi
    obtain ⟨_, h2⟩ := g2 j hj
    have := hD.1 _ _ _ _ h1 h2 e
    omega
  · obtain ⟨_, h1⟩ := g1 i hi
    exact hD.2 _ _ h1
  · obtain ⟨_, h1⟩ := g2 i hi
    exact hD.2 _ _ h1
theorem aj_Rel0 : aj_Rel (fun _ => 0) (fun _ _ _ => false) := by
  rw [aj_Rel_iff]
  intro i a b _ _ _
  exact b_0 b
theorem aj_MRel0 : aj_MRel (fun _ => 0) (fun _ _ _ => false) := fun _ _ _ _ _ _ => (by decide : (0 : Int32) = nI false.toNat)
set_option maxHeartbeats 4000000 in
set_option maxRecDepth 100000 in
theorem whole_start {p : Program} {e : Env} {s : State} {m : MethodId} {below : List Frame} {meth : Method} {c : Code} (l : Launch) {b L : Nat} {xs : Nat → Int32} (hL : L ≤ 256) (C0 : lw_At p s m meth c b L xs) : W p l e room_1 s m #[Value.ref b] below meth c s.heap [] 0 0 (lw_Z below #[Value.ref b] s) (entryFrame m ([Value.ref b] : List Value).toArray 4) := by
  obtain ⟨hx, hb, hr, hml, hown, hts0, hX, hbl, hlocks, hgv⟩ := id C0
  have hts : ∀ w ∈ lw_all, w.before #[Value.ref b] s = true := fun w h => hts0 w (lw_all_tbl h)
  have hA : ∀ q : Nat, s.heap.size ≤ q → (fun q : Nat => s.heap.size ≤ q) q := fun _ h => h
  obtain ⟨c0, iS0, hKn0⟩ := u_known (C := RX0) (T := TX0) (N := 9) (n := 9) hts in_X0 (hts _ q25)
  obtain ⟨c1, iS1, hKn1⟩ := u_known (C := RX1) (T := TX1) (N := 3) (n := 3) hts in_X1 (hts _ q167)
  obtain ⟨D, hKc⟩ : ∃ D : va_G, ∀ (k : Nat) (q : vw_C), aj_cl[k]? = some q → u_Kn s q.1 q.2.1 q.2.2 (D.1 k) (D.2 k) := by
    refine ⟨(fun k => if k = 0 then c0 else c1, fun k => if k = 0 then iS0 else iS1), ?_⟩
    intro k q hq
    match k, hq with
    | 0, hq => cases hq; exact hKn0
    | 1, hq => cases hq; exact hKn1
    | k + 2, hq => simp [aj_cl] at hq
  have hS : va_S (fun q : Nat => s.heap.size ≤ q) s.heap s.heap [] := va_S.rf
  have hK : va_K D aj_cl [] s := ⟨hKc, fun k q h => by simp at h⟩
  have hP : va_P D aj_cl [] s.heap := fun k q h => by simp at h
  have hD : va_D (fun q : Nat => s.heap.size ≤ q) [] := ⟨fun i j p q h => by simp at h, fun k q h => by simp at h⟩
  have hl := lv_entry ([.ref b]) (n := 4) (Nat.le_of_ble_eq_true rfl)
  rw [lg_entry_eq]
  generalize (lg_sl ([.ref b]) ++ List.replicate (4 - (lg_sl ([.ref b])).length) Slot.unset).toArray = ls at hl ⊢
  have hl : lv_has ls 4 [(0, .ref b)] := hl
  refine va_new (ci := 0) (fs := [.null, .null, .int 0, .null, .null, .null, .null, .null, .int 0]) (C := RX0) (T := TX0) (N := 9) hx hb hts in_X0 tyX0 tyX0_ok hown (hts _ q24) (hts _ q25) (hts _ q22) hK hP hD hS hA rfl (fun j hj => by rcases (show j = 0 ∨ j = 1 ∨ j = 2 ∨ j = 3 ∨ j = 4 ∨ j = 5 ∨ j = 6 ∨ j = 7 ∨ j = 8 by omega) with rfl | rfl | rfl | rfl | rfl | rfl | rfl | rfl | rfl <;> rfl) (Nat.le_of_ble_eq_true rfl) (Nat.le_of_ble_eq_true rfl) dL_law_0 (fun h1 H hP hD hS => ?_)
  have hP : va_P D aj_cl [(h1, .inr (0, [.null, .null, .int 0, .null, .null, .null, .null, .null, .int 0]))] H := hP
  have hD : va_D (fun q : Nat => s.heap.size ≤ q) [(h1, .inr (0, [.null, .null, .int 0, .null, .null, .null, .null, .null, .int 0]))] := hD
  refine W.widen (k := 1) (n := 9) (Nat.le_of_ble_eq_true rfl) (Nat.le_of_ble_eq_true rfl) ?_
  refine lv_dup hx hb dL_law_3 rfl ?_
  have hFc := va_free (wc := [(h1, .inr (0, [.null, .null, .int 0, .null, .null, .null, .null, .null, .int 0]))]) hD hS hA [0] rfl
  refine va_callv (va_runI (As := []) (rest := [.ref h1]) ⟨hx, hb, hml, hown, hts⟩ (aj_C_init l (D := D) (h0 := h1) (sz := H.size)) (cwI 0 hts (lw_meth q28) rfl rfl rfl (hts _ q22) (hts _ q26) (hts _ q27) rfl (by decide +kernel) ⟨Nat.le_of_ble_eq_true rfl, Nat.le_of_ble_eq_true rfl⟩) ⟨fun a U g mk q => by obtain ⟨q0, q1, qP, qK, qD⟩ := q; exact ⟨q0, q1, qP, va_K.moved (u := U) (U := U.calling g mk a) (Vm.Alike.refl U.vm) qK, qD⟩, fun U hU hW => ⟨rfl, by rw [hU], by rw [hU]; exact hP, va_K.moved hW.alike hK, hD.weaken (fun _ _ _ _ => trivial)⟩⟩ rfl rfl hl.1 rfl (lv_room (Nat.le_of_ble_eq_true rfl)) dL_law_4 ⟨Nat.le_of_ble_eq_true rfl, Nat.le_of_ble_eq_true rfl⟩) hS (fun q _ h => hFc q h) hFc (fun u t H1 locs ht hvm _ hB hz1 hk1 hS => ?_)
  obtain ⟨ad, d, had, hP1, hK1, hD1⟩ := hB
  rw [ht] at hP1
  have hKC := va_K.moved hvm.symm hK1
  obtain ⟨hP, hD⟩ := va_join (wr := []) (w1 := aj_cW ad d (fun _ => 0) (fun _ => 0) (nI 0) (fun _ => 0) (fun _ => 0) (fun _ => 0) (fun _ => 0) (fun _ => 0) 0) hP hD [0] [] rfl rfl (by decide) (by decide) hk1 hFc hP1 hD1
  have hP : va_P D aj_cl (aj_cW ad d (fun _ => 0) (fun _ => 0) (nI 0) (fun _ => 0) (fun _ => 0) (fun _ => 0) (fun _ => 0) (fun _ => 0) 0) H1 := hP
  have hD : va_D (fun q : Nat => s.heap.size ≤ q) (aj_cW ad d (fun _ => 0) (fun _ => 0) (nI 0) (fun _ => 0) (fun _ => 0) (fun _ => 0) (fun _ => 0) (fun _ => 0) 0) := hD
  refine W.widen (k := 8) (n := 85) (Nat.le_of_ble_eq_true rfl) (Nat.le_of_ble_eq_true rfl) ?_
  refine lv_astore_n (lv' := [(1, .ref h1), (0, .ref b)]) hx hb dL_law_7 rfl hl (by decide) rfl (fun ls hl => ?_)
  refine va_new (ci := 1) (fs := [.null, .null, .null]) (C := RX1) (T := TX1) (N := 3) hx hb hts in_X1 tyX1 tyX1_ok hown (hts _ q166) (hts _ q167) (hts _ q23) hK hP hD hS hA rfl (fun j hj => by rcases (show j = 0 ∨ j = 1 ∨ j = 2 by omega) with rfl | rfl | rfl <;> rfl) (Nat.le_of_ble_eq_true rfl) (Nat.le_of_ble_eq_true rfl) dL_law_8 (fun h2 H hP hD hS => ?_)
  refine W.widen (k := 9) (n := 88) (Nat.le_of_ble_eq_true rfl) (Nat.le_of_ble_eq_true rfl) ?_
  refine lv_dup hx hb dL_law_11 rfl ?_
  have hPc := hP.sub (ws' := [(h2, .inr (1, [.null, .null, .null]))]) [8] rfl
  have hDc := hD.sub (ws' := [(h2, .inr (1, [.null, .null, .null]))]) [8] (by decide) rfl
  have hFc := va_free (wc := [(h2, .inr (1, [.null, .null, .null]))]) hD hS hA [8] rfl
  refine va_callv (va_runI (As := []) (rest := [.ref h2]) ⟨hx, hb, hml, hown, hts⟩ (aj_M_init l (D := D) (h0 := h2) (sz := H.size)) (cwI 0 hts (lw_meth q170) rfl rfl rfl (hts _ q23) (hts _ q168) (hts _ q169) rfl (by decide +kernel) ⟨Nat.le_of_ble_eq_true rfl, Nat.le_of_ble_eq_true rfl⟩) ⟨fun a U g mk q => by obtain ⟨q0, q1, qP, qK, qD⟩ := q; exact ⟨q0, q1, qP, va_K.moved (u := U) (U := U.calling g mk a) (Vm.Alike.refl U.vm) qK, qD⟩, fun U hU hW => ⟨rfl, by rw [hU], by rw [hU]; exact hPc, va_K.moved hW.alike hK, hDc.weaken (fun _ _ _ _ => trivial)⟩⟩ rfl rfl hl.1 rfl (lv_room (Nat.le_of_ble_eq_true rfl)) dL_law_12 ⟨Nat.le_of_ble_eq_true rfl, Nat.le_of_ble_eq_true rfl⟩) hS (fun q _ h => hFc q h) hFc (fun u t H2 locs ht hvm _ hB hz1 hk1 hS => ?_)
  obtain ⟨bd, d2, d3, hbd, hP1, hK1, hD1⟩ := hB
  rw [ht] at hP1
  have hKM := va_K.moved hvm.symm hK1
  obtain ⟨hP, hD⟩ := va_join (wr := aj_cW ad d (fun _ => 0) (fun _ => 0) (nI 0) (fun _ => 0) (fun _ => 0) (fun _ => 0) (fun _ => 0) (fun _ => 0) 0) (w1 := aj_mW bd d2 d3 (fun _ => 0) (fun _ => 0) (fun _ => 0)) hP hD [8] [0, 1, 2, 3, 4, 5, 6, 7] rfl rfl (by decide) (by decide) hk1 hFc hP1 hD1
  obtain ⟨hC8, hM4, hdis, hAc, hAm⟩ := aj_apart hD
  have hPC : va_P D aj_cl (aj_cW ad d (fun _ => 0) (fun _ => 0) (nI 0) (fun _ => 0) (fun _ => 0) (fun _ => 0) (fun _ => 0) (fun _ => 0) 0) H2 := hP.sub [0, 1, 2, 3, 4, 5, 6, 7] rfl
  refine W.widen (k := 600000) (n := 7290000) (Nat.le_of_ble_eq_true rfl) (Nat.le_of_ble_eq_true rfl) ?_
  refine lv_astore_n (lv' := [(2, .ref h2), (1, .ref h1), (0, .ref b)]) hx hb dL_law_15 rfl hl (by decide) rfl (fun ls hl => ?_)
  refine lv_iconst (v := nI 0) hx hb dL_law_16 (by decide) ?_
  refine lv_istore_n (lv' := [(3, .int (nI 0)), (2, .ref h2), (1, .ref h1), (0, .ref b)]) hx hb dL_law_17 rfl hl (by decide) rfl (fun ls hl => ?_)
  subst had
  subst hbd
  exact aj_law_loop l hL C0 hKC hKM hC8 hM4 hdis hAc hAm (L + 1) 0 (fun _ _ _ => false) (fun _ => 0) (Nat.zero_le _) (by omega) _ _ ⟨_, false, _, _, _, _, _, _, aj_Rel0, fun h => (by cases h), hPC⟩ ⟨_, _, aj_MRel0, hP1⟩ hS ls (lv_sub hl [3, 2, 1, 0] rfl)
end
end
section
section
set_option maxHeartbeats 4000000 in
theorem lw_walk (l : Launch) (b : Addr) (xs : List Int32) : MetFree l x (headSpec (Jvm.Cond.code x code maxLocals ret :: tables_1) room_1) (lw_P b xs) (fun _ _ _ _ _ => True) lw_Q := by
  refine MetFree.of_bodyS (code := code) (maxLocals := maxLocals) (ret := ret) (by decide) ?_ ?_
  · intro args s m h hn
    obtain ⟨meth, c, h1, h2, h3, h4, h5, h6, -, -⟩ := Cond.code_spec hn (atoms_spec (ws := Jvm.Cond.code x code maxLocals ret :: tables_1) h _ List.mem_cons_self)
    exact ⟨meth, c, h1, h2, h3, h4, h5, h6⟩
  · intro p e s m args below meth c s₁ B hml0 hP _
    obtain ⟨rfl, hx, hbd, hgv⟩ := hP
    obtain ⟨scr, harrAt, hlist, hof, hsmall⟩ := hx
    obtain ⟨hcb, hkn, -, -⟩ := State.arrayAt?_spec harrAt
    have hown : s.vm.findClass R_law = some m.cls := findClass_of_methodNamed B.named
    have hts0 : ∀ c ∈ (Jvm.Cond.code x code maxLocals ret :: tables_1), c.before #[Value.ref b] s = true := atoms_spec (ws := Jvm.Cond.code x code maxLocals ret :: tables_1) B.pre
    have hts : ∀ w ∈ lw_tbl, w.before #[Value.ref b] s = true := k2_hts_sels lw_privs (fun w hw => hts0 w (List.mem_cons_of_mem _ hw)) lw_privs_ok
    have hml : c.maxLocals = 4 := B.maxLocals_eq (hts0 _ List.mem_cons_self)
    have X₀ : Stand p l e room_1 s m #[Value.ref b] below meth c s₁ [] 0 0 := Stand.of_body B
    have hh0 : s₁.heap = s.heap := by rw [B.state]; rfl
    have hsz : scr.slots.size = xs.length := by rw [← Array.length_toList, hlist, List.length_map]
    have hval : ∀ j : Nat, j < xs.length → scr.slots[j]? = some (.int (xs.getD j 0)) := fun j hj => by
      rw [← Array.getElem?_toList, hlist]
      simp [hj]
    have hbl : b < s.heap.size := (Array.getElem?_eq_some_iff.mp hcb).1
    have hX : va_X b xs.length (fun j => xs.getD j 0) s s.heap := ⟨scr, hcb, hof, hkn, hsz, hval⟩
    have K : W p l e room_1 s m #[Value.ref b] below meth c s₁.heap [] 0 0 (lw_Z below #[Value.ref b] s) (entryFrame m ([Value.ref b] : List Value).toArray 4) := by
      rw [hh0]
      exact whole_start l hbd ⟨B.exec, B.bytes, B.returns, hml, hown, hts, hX, hbl, B.notSynchronized, hgv⟩
    obtain ⟨t, a1, o, b1, b2, b3⟩ := K s₁ rfl X₀
    exact ⟨t, o, a1, b1, b2, b3⟩
theorem lw_pre_spec {args : Array Value} {s : State} (h : (Jvm.Cond.and given_1 narrow_1).before args s = true) (hr : rest_1_c.before args s = true) : ∃ (b : Addr) (xs : List Int32), lw_P b xs args s := by
  have hs := flat_of_before _ h
  have hq := flat_of_before _ hr
  have hc : (Cond.count 1).before args s = true := hs _ (by decide +kernel)
  have harr : (Cond.arrayOf (.arg 0) .int).before args s = true := hs _ (by decide +kernel)
  have hle : (Cond.le (.length (.arg 0)) (.int 256)).before args s = true := hs _ (by decide +kernel)
  have hlen : (Cond.isInt (.length (.arg 0))).before args s = true := hq _ (by decide +kernel)
  have hall : (Cond.all (.arg 0) (.isInt (.elem (.arg 0) (.index 0)))).before args s = true := hq _ (by decide +kernel)
  obtain ⟨b, xs, hb, hx⟩ := State.ints_of_pre rfl harr hlen hall
  have hsm : xs.length < 2 ^ 31 := hx.choose_spec.2.2.2
  have hev : (Term.length (.arg 0)).eval args s none [] s = some (.int xs.length.toInt32) := hx.length_eval hb
  have hv := Cond.le_ints hev (show (Term.int 256).eval args s none [] s = some (.int 256) from rfl)
  have hd : xs.length.toInt32 ≤ 256 := by
    simpa [Cond.before, Cond.holds, hv] using hle
  have hN : xs.length ≤ 256 := (Int32.ofNat_le_ofNat hsm (by decide)).mp (show Int32.ofNat xs.length ≤ Int32.ofNat 256 from hd)
  exact ⟨b, xs, Cond.one_arg hc (show args[0]? = some (.ref b) from hb), hx, hN, h⟩
theorem lw_comes (l : Launch) : Comes l x (Jvm.Cond.code x code maxLocals ret :: tables_1) room_1 (fun tb e args s => Calls_1 tb e args s ∧ rest_1 tb e args s ∧ Pre_1 tb e args s)
    (fun _ _ args s o t => lw_Q args s o t) := by
  intro p e ha hc hk s m args below hf hfit hheap happ hpre
  obtain ⟨b, xs, hP⟩ := lw_pre_spec hpre.2.2 hpre.2.1
  obtain ⟨k, o, h1, h2, h3, hQ⟩ := lw_walk l b xs p e ha hc hk s m args below hf ((Spec.applies_iff_loose hf).mp happ).1 hP trivial
  exact ⟨k, o, h1, h2, h3, hQ⟩
theorem lw_frame {s t : State} {o : Outcome} {args : Array Value} (h : Framed s o t [] 600000 7290000) :
    Framed s o t (fieldLocs frame_1_writes args s ++ arrayLocs frame_1_arrays args s ++ staticLocs frame_1_statics s) 600000 7290000 := h
theorem lw_limb (L : Cond) (hL : ∀ (args : Array Value) (s t : State), L.after args s (.returned (some (.int 1))) t = true) :
    ArmFor flags0 classFile x code maxLocals ret World_1 tables_1 room_1 Calls_1 rest_1 Pre_1
      (fun tb e a s o t => postC L tb e a s o t ∧ Framed s o t (fieldLocs frame_1_writes a s ++ arrayLocs frame_1_arrays a s ++ staticLocs frame_1_statics s) 600000 7290000) := by
  intro l _ _ _ p e ha hc hk s m args below hf hfit hheap happ hpre
  obtain ⟨k, o, h1, h2, h3, rfl, hF⟩ := lw_comes l p e ha hc hk s m args below hf hfit hheap happ hpre
  exact ⟨k, _, h1, h2, h3, hL args s _, lw_frame hF⟩
theorem i_vc : Claimed_1_1 ∧ Claimed_1_2 := ⟨lw_limb limb_1_1 (fun args s t => by simp [limb_1_1, Cond.after, Cond.holds, Cond.value]), lw_limb limb_1_2 (fun args s t => Cond.after_iff.mpr (by
  first | (rw [show limb_1_2 = Cond.eq .result (.int 1) from rfl, Cond.eq_ints (x := 1) (y := 1) rfl rfl]; simp; done) | (simp [limb_1_2, Cond.value, Term.eval]; done)))⟩
end
end
